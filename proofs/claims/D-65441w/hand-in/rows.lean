section
-- ===== PART A: goes FIRST, ahead of the names: the tables' words, and 'selects' of the private methods out of them =====
/-- a private method of a class that the tables say can be made, by its rows of tables_1 -/
def lw_okq (q : MethodName × Nat) : Prop := (q.1.cls ≠ "java/lang/invoke/MethodHandle" ∧ q.1.cls ≠ "java/lang/invoke/VarHandle") ∧ Cond.instantiable q.1.cls q.2 ∈ tables_1 ∧ Cond.privateMethod q.1 ∈ tables_1 ∧ Cond.instanceMethod q.1 ∈ tables_1
theorem lw_p0 : lw_okq (⟨"PuzzleBook", "fillRoot", "(I)V"⟩, 9) := ⟨⟨by decide +kernel, by decide +kernel⟩, List.mem_of_getElem? (i := 13) (by decide +kernel), List.mem_of_getElem? (i := 54) (by decide +kernel), List.mem_of_getElem? (i := 55) (by decide +kernel)⟩
theorem lw_p1 : lw_okq (⟨"PuzzleBook", "clear", "()V"⟩, 9) := ⟨⟨by decide +kernel, by decide +kernel⟩, List.mem_of_getElem? (i := 13) (by decide +kernel), List.mem_of_getElem? (i := 58) (by decide +kernel), List.mem_of_getElem? (i := 59) (by decide +kernel)⟩
theorem lw_p2 : lw_okq (⟨"PuzzleBook", "seal", "()V"⟩, 9) := ⟨⟨by decide +kernel, by decide +kernel⟩, List.mem_of_getElem? (i := 13) (by decide +kernel), List.mem_of_getElem? (i := 62) (by decide +kernel), List.mem_of_getElem? (i := 63) (by decide +kernel)⟩
theorem lw_p3 : lw_okq (⟨"PuzzleBook", "isRight", "(I)Z"⟩, 9) := ⟨⟨by decide +kernel, by decide +kernel⟩, List.mem_of_getElem? (i := 13) (by decide +kernel), List.mem_of_getElem? (i := 77) (by decide +kernel), List.mem_of_getElem? (i := 78) (by decide +kernel)⟩
theorem lw_p4 : lw_okq (⟨"PuzzleBook", "reads", "([B)Z"⟩, 9) := ⟨⟨by decide +kernel, by decide +kernel⟩, List.mem_of_getElem? (i := 13) (by decide +kernel), List.mem_of_getElem? (i := 84) (by decide +kernel), List.mem_of_getElem? (i := 85) (by decide +kernel)⟩
theorem lw_p5 : lw_okq (⟨"PuzzleBook", "isUsed", "(I)Z"⟩, 9) := ⟨⟨by decide +kernel, by decide +kernel⟩, List.mem_of_getElem? (i := 13) (by decide +kernel), List.mem_of_getElem? (i := 88) (by decide +kernel), List.mem_of_getElem? (i := 89) (by decide +kernel)⟩
theorem lw_p6 : lw_okq (⟨"PuzzleBook", "sizeOf", "(I)I"⟩, 9) := ⟨⟨by decide +kernel, by decide +kernel⟩, List.mem_of_getElem? (i := 13) (by decide +kernel), List.mem_of_getElem? (i := 92) (by decide +kernel), List.mem_of_getElem? (i := 93) (by decide +kernel)⟩
theorem lw_p7 : lw_okq (⟨"PuzzleBook", "isFed", "(I)Z"⟩, 9) := ⟨⟨by decide +kernel, by decide +kernel⟩, List.mem_of_getElem? (i := 13) (by decide +kernel), List.mem_of_getElem? (i := 133) (by decide +kernel), List.mem_of_getElem? (i := 134) (by decide +kernel)⟩
theorem lw_p8 : lw_okq (⟨"PuzzleBook", "freeBlock", "()I"⟩, 9) := ⟨⟨by decide +kernel, by decide +kernel⟩, List.mem_of_getElem? (i := 13) (by decide +kernel), List.mem_of_getElem? (i := 137) (by decide +kernel), List.mem_of_getElem? (i := 138) (by decide +kernel)⟩
theorem lw_p9 : lw_okq (⟨"PuzzleBook", "turnTo", "()V"⟩, 9) := ⟨⟨by decide +kernel, by decide +kernel⟩, List.mem_of_getElem? (i := 13) (by decide +kernel), List.mem_of_getElem? (i := 149) (by decide +kernel), List.mem_of_getElem? (i := 150) (by decide +kernel)⟩
theorem lw_p10 : lw_okq (⟨"PuzzleBook", "nameOf", "(I)I"⟩, 9) := ⟨⟨by decide +kernel, by decide +kernel⟩, List.mem_of_getElem? (i := 13) (by decide +kernel), List.mem_of_getElem? (i := 158) (by decide +kernel), List.mem_of_getElem? (i := 159) (by decide +kernel)⟩
theorem lw_p11 : lw_okq (⟨"java/lang/Throwable", "fillInStackTrace", "(I)Ljava/lang/Throwable;"⟩, 6) := ⟨⟨by decide +kernel, by decide +kernel⟩, List.mem_of_getElem? (i := 229) (by decide +kernel), List.mem_of_getElem? (i := 227) (by decide +kernel), List.mem_of_getElem? (i := 228) (by decide +kernel)⟩
theorem lw_p12 : lw_okq (⟨"PuzzleBookModel", "writeRoot", "(II)V"⟩, 12) := ⟨⟨by decide +kernel, by decide +kernel⟩, List.mem_of_getElem? (i := 278) (by decide +kernel), List.mem_of_getElem? (i := 284) (by decide +kernel), List.mem_of_getElem? (i := 285) (by decide +kernel)⟩
theorem lw_p13 : lw_okq (⟨"PuzzleBookModel", "write", "(II)V"⟩, 12) := ⟨⟨by decide +kernel, by decide +kernel⟩, List.mem_of_getElem? (i := 278) (by decide +kernel), List.mem_of_getElem? (i := 288) (by decide +kernel), List.mem_of_getElem? (i := 289) (by decide +kernel)⟩
theorem lw_p14 : lw_okq (⟨"PuzzleBookModel", "writeSum", "(I)V"⟩, 12) := ⟨⟨by decide +kernel, by decide +kernel⟩, List.mem_of_getElem? (i := 278) (by decide +kernel), List.mem_of_getElem? (i := 292) (by decide +kernel), List.mem_of_getElem? (i := 293) (by decide +kernel)⟩
theorem lw_p15 : lw_okq (⟨"PuzzleBookModel", "sumOf", "(I)I"⟩, 12) := ⟨⟨by decide +kernel, by decide +kernel⟩, List.mem_of_getElem? (i := 278) (by decide +kernel), List.mem_of_getElem? (i := 296) (by decide +kernel), List.mem_of_getElem? (i := 297) (by decide +kernel)⟩
def lw_privs_1 : List (MethodName × Nat) := [(⟨"PuzzleBook", "fillRoot", "(I)V"⟩, 9), (⟨"PuzzleBook", "clear", "()V"⟩, 9), (⟨"PuzzleBook", "seal", "()V"⟩, 9), (⟨"PuzzleBook", "isRight", "(I)Z"⟩, 9), (⟨"PuzzleBook", "reads", "([B)Z"⟩, 9), (⟨"PuzzleBook", "isUsed", "(I)Z"⟩, 9), (⟨"PuzzleBook", "sizeOf", "(I)I"⟩, 9), (⟨"PuzzleBook", "isFed", "(I)Z"⟩, 9), (⟨"PuzzleBook", "freeBlock", "()I"⟩, 9), (⟨"PuzzleBook", "turnTo", "()V"⟩, 9), (⟨"PuzzleBook", "nameOf", "(I)I"⟩, 9), (⟨"java/lang/Throwable", "fillInStackTrace", "(I)Ljava/lang/Throwable;"⟩, 6), (⟨"PuzzleBookModel", "writeRoot", "(II)V"⟩, 12), (⟨"PuzzleBookModel", "write", "(II)V"⟩, 12), (⟨"PuzzleBookModel", "writeSum", "(I)V"⟩, 12), (⟨"PuzzleBookModel", "sumOf", "(I)I"⟩, 12)]
theorem lw_r1 : ∀ q ∈ lw_privs_1, lw_okq q := List.forall_mem_cons.mpr ⟨lw_p0, List.forall_mem_cons.mpr ⟨lw_p1, List.forall_mem_cons.mpr ⟨lw_p2, List.forall_mem_cons.mpr ⟨lw_p3, List.forall_mem_cons.mpr ⟨lw_p4, List.forall_mem_cons.mpr ⟨lw_p5, List.forall_mem_cons.mpr ⟨lw_p6, List.forall_mem_cons.mpr ⟨lw_p7, List.forall_mem_cons.mpr ⟨lw_p8, List.forall_mem_cons.mpr ⟨lw_p9, List.forall_mem_cons.mpr ⟨lw_p10, List.forall_mem_cons.mpr ⟨lw_p11, List.forall_mem_cons.mpr ⟨lw_p12, List.forall_mem_cons.mpr ⟨lw_p13, List.forall_mem_cons.mpr ⟨lw_p14, List.forall_mem_cons.mpr ⟨lw_p15, fun _ h => absurd h List.not_mem_nil⟩⟩⟩⟩⟩⟩⟩⟩⟩⟩⟩⟩⟩⟩⟩⟩
theorem lw_p16 : lw_okq (⟨"PuzzleBookModel", "hasFed", "(I)Z"⟩, 12) := ⟨⟨by decide +kernel, by decide +kernel⟩, List.mem_of_getElem? (i := 278) (by decide +kernel), List.mem_of_getElem? (i := 351) (by decide +kernel), List.mem_of_getElem? (i := 352) (by decide +kernel)⟩
theorem lw_p17 : lw_okq (⟨"PuzzleBookModel", "longOf", "(I)I"⟩, 12) := ⟨⟨by decide +kernel, by decide +kernel⟩, List.mem_of_getElem? (i := 278) (by decide +kernel), List.mem_of_getElem? (i := 355) (by decide +kernel), List.mem_of_getElem? (i := 356) (by decide +kernel)⟩
theorem lw_p18 : lw_okq (⟨"PuzzleBookModel", "leastFree", "()I"⟩, 12) := ⟨⟨by decide +kernel, by decide +kernel⟩, List.mem_of_getElem? (i := 278) (by decide +kernel), List.mem_of_getElem? (i := 359) (by decide +kernel), List.mem_of_getElem? (i := 360) (by decide +kernel)⟩
theorem lw_p19 : lw_okq (⟨"PuzzleBookModel", "isUsed", "(I)Z"⟩, 12) := ⟨⟨by decide +kernel, by decide +kernel⟩, List.mem_of_getElem? (i := 278) (by decide +kernel), List.mem_of_getElem? (i := 363) (by decide +kernel), List.mem_of_getElem? (i := 364) (by decide +kernel)⟩
theorem lw_p20 : lw_okq (⟨"PuzzleBookModel", "writeEntry", "(II)V"⟩, 12) := ⟨⟨by decide +kernel, by decide +kernel⟩, List.mem_of_getElem? (i := 278) (by decide +kernel), List.mem_of_getElem? (i := 367) (by decide +kernel), List.mem_of_getElem? (i := 368) (by decide +kernel)⟩
theorem lw_p21 : lw_okq (⟨"PuzzleBookModel", "turnTo", "(I)V"⟩, 12) := ⟨⟨by decide +kernel, by decide +kernel⟩, List.mem_of_getElem? (i := 278) (by decide +kernel), List.mem_of_getElem? (i := 371) (by decide +kernel), List.mem_of_getElem? (i := 372) (by decide +kernel)⟩
theorem lw_p22 : lw_okq (⟨"PuzzleBookModel", "nameOf", "(I)I"⟩, 12) := ⟨⟨by decide +kernel, by decide +kernel⟩, List.mem_of_getElem? (i := 278) (by decide +kernel), List.mem_of_getElem? (i := 383) (by decide +kernel), List.mem_of_getElem? (i := 384) (by decide +kernel)⟩
theorem lw_p23 : lw_okq (⟨"PuzzleBookModel", "rootIsRight", "(I)Z"⟩, 12) := ⟨⟨by decide +kernel, by decide +kernel⟩, List.mem_of_getElem? (i := 278) (by decide +kernel), List.mem_of_getElem? (i := 399) (by decide +kernel), List.mem_of_getElem? (i := 400) (by decide +kernel)⟩
theorem lw_p24 : lw_okq (⟨"PuzzleBookModel", "isRight", "(I)Z"⟩, 12) := ⟨⟨by decide +kernel, by decide +kernel⟩, List.mem_of_getElem? (i := 278) (by decide +kernel), List.mem_of_getElem? (i := 403) (by decide +kernel), List.mem_of_getElem? (i := 404) (by decide +kernel)⟩
theorem lw_p25 : lw_okq (⟨"PuzzleBookModel", "entryIsRight", "(I)Z"⟩, 12) := ⟨⟨by decide +kernel, by decide +kernel⟩, List.mem_of_getElem? (i := 278) (by decide +kernel), List.mem_of_getElem? (i := 407) (by decide +kernel), List.mem_of_getElem? (i := 408) (by decide +kernel)⟩
theorem lw_p26 : lw_okq (⟨"PuzzleBookModel", "isByte", "(II)Z"⟩, 12) := ⟨⟨by decide +kernel, by decide +kernel⟩, List.mem_of_getElem? (i := 278) (by decide +kernel), List.mem_of_getElem? (i := 415) (by decide +kernel), List.mem_of_getElem? (i := 416) (by decide +kernel)⟩
def lw_privs_2 : List (MethodName × Nat) := [(⟨"PuzzleBookModel", "hasFed", "(I)Z"⟩, 12), (⟨"PuzzleBookModel", "longOf", "(I)I"⟩, 12), (⟨"PuzzleBookModel", "leastFree", "()I"⟩, 12), (⟨"PuzzleBookModel", "isUsed", "(I)Z"⟩, 12), (⟨"PuzzleBookModel", "writeEntry", "(II)V"⟩, 12), (⟨"PuzzleBookModel", "turnTo", "(I)V"⟩, 12), (⟨"PuzzleBookModel", "nameOf", "(I)I"⟩, 12), (⟨"PuzzleBookModel", "rootIsRight", "(I)Z"⟩, 12), (⟨"PuzzleBookModel", "isRight", "(I)Z"⟩, 12), (⟨"PuzzleBookModel", "entryIsRight", "(I)Z"⟩, 12), (⟨"PuzzleBookModel", "isByte", "(II)Z"⟩, 12)]
theorem lw_r2 : ∀ q ∈ lw_privs_2, lw_okq q := List.forall_mem_cons.mpr ⟨lw_p16, List.forall_mem_cons.mpr ⟨lw_p17, List.forall_mem_cons.mpr ⟨lw_p18, List.forall_mem_cons.mpr ⟨lw_p19, List.forall_mem_cons.mpr ⟨lw_p20, List.forall_mem_cons.mpr ⟨lw_p21, List.forall_mem_cons.mpr ⟨lw_p22, List.forall_mem_cons.mpr ⟨lw_p23, List.forall_mem_cons.mpr ⟨lw_p24, List.forall_mem_cons.mpr ⟨lw_p25, List.forall_mem_cons.mpr ⟨lw_p26, fun _ h => absurd h List.not_mem_nil⟩⟩⟩⟩⟩⟩⟩⟩⟩⟩⟩
def lw_privs : List (MethodName × Nat) := lw_privs_1 ++ (lw_privs_2)
def lw_tbl : List Cond := k2_sels lw_privs ++ tables_1
theorem lw_privs_ok : ∀ q ∈ lw_privs, lw_okq q := by
  show ∀ q ∈ lw_privs_1 ++ (lw_privs_2), lw_okq q
  exact List.forall_mem_append.mpr ⟨lw_r1, lw_r2⟩
end
section
-- names: classes, fields, methods, words of the tables (by gen/names.py)
def R_Bk : String := "PuzzleBook"
def R_Pn : String := "PuzzleBook$Pen"
def R_Md : String := "PuzzleBookModel"
def R_law2 : String := "PuzzleBookLaw"
def R_Mt : String := "java/lang/Math"
def R_In : String := "java/lang/Integer"
def F_Bk : u_T := fun k => match k with
  | 0 => ("PuzzleBook", "store", "[[B", true)
  | 1 => ("PuzzleBook", "pen", "LPuzzleBook$Pen;", true)
  | 2 => ("PuzzleBook", "fed", "[B", true)
  | 3 => ("PuzzleBook", "page", "[B", true)
  | 4 => ("PuzzleBook", "fedSize", "I", false)
  | 5 => ("PuzzleBook", "isOpen", "Z", false)
  | 6 => ("PuzzleBook", "turn", "I", false)
  | 7 => ("PuzzleBook", "entries", "[I", true)
  | _ => ("PuzzleBook", "many", "I", false)
def t_Bk : Nat → FieldType := fun k => match k with
  | 0 => .array (.array .byte)
  | 1 => .object "PuzzleBook$Pen"
  | 2 => .array .byte
  | 3 => .array .byte
  | 4 => .int
  | 5 => .boolean
  | 6 => .int
  | 7 => .array .int
  | _ => .int
theorem n_Bk : ∀ a, a < 9 → ∀ b, b < 9 → a ≠ b → (F_Bk a).2.1 ≠ (F_Bk b).2.1 := by decide +kernel
theorem t_Bk_ok : ∀ k, k < 9 → parseFieldDescriptor (F_Bk k).2.2.1 = some (t_Bk k) := by decide +kernel
def F_Pn : u_T := fun k => match k with
  | 0 => ("PuzzleBook$Pen", "store", "[[B", true)
  | 1 => ("PuzzleBook$Pen", "blocks", "[I", true)
  | 2 => ("PuzzleBook$Pen", "places", "[I", true)
  | 3 => ("PuzzleBook$Pen", "was", "[B", true)
  | _ => ("PuzzleBook$Pen", "size", "I", false)
def t_Pn : Nat → FieldType := fun k => match k with
  | 0 => .array (.array .byte)
  | 1 => .array .int
  | 2 => .array .int
  | 3 => .array .byte
  | _ => .int
theorem n_Pn : ∀ a, a < 5 → ∀ b, b < 5 → a ≠ b → (F_Pn a).2.1 ≠ (F_Pn b).2.1 := by decide +kernel
theorem t_Pn_ok : ∀ k, k < 5 → parseFieldDescriptor (F_Pn k).2.2.1 = some (t_Pn k) := by decide +kernel
def F_Md : u_T := fun k => match k with
  | 0 => ("PuzzleBookModel", "blocks", "I", true)
  | 1 => ("PuzzleBookModel", "store", "[I", true)
  | 2 => ("PuzzleBookModel", "open", "Z", false)
  | 3 => ("PuzzleBookModel", "turn", "I", false)
  | 4 => ("PuzzleBookModel", "entries", "I", false)
  | 5 => ("PuzzleBookModel", "thrown", "I", false)
  | 6 => ("PuzzleBookModel", "block", "[I", true)
  | 7 => ("PuzzleBookModel", "fed", "[I", true)
  | 8 => ("PuzzleBookModel", "fedLong", "I", false)
  | 9 => ("PuzzleBookModel", "where", "[I", true)
  | 10 => ("PuzzleBookModel", "before", "[I", true)
  | _ => ("PuzzleBookModel", "written", "I", false)
def t_Md : Nat → FieldType := fun k => match k with
  | 0 => .int
  | 1 => .array .int
  | 2 => .boolean
  | 3 => .int
  | 4 => .int
  | 5 => .int
  | 6 => .array .int
  | 7 => .array .int
  | 8 => .int
  | 9 => .array .int
  | 10 => .array .int
  | _ => .int
theorem n_Md : ∀ a, a < 12 → ∀ b, b < 12 → a ≠ b → (F_Md a).2.1 ≠ (F_Md b).2.1 := by decide +kernel
theorem t_Md_ok : ∀ k, k < 12 → parseFieldDescriptor (F_Md k).2.2.1 = some (t_Md k) := by decide +kernel
abbrev pb_cl : List vw_C := [(R_Bk, F_Bk, 9), (R_Pn, F_Pn, 5), (R_Md, F_Md, 12)]
def pb_G : List Cond := lw_tbl.filter goodWord
theorem pb_Gm {w : Cond} (h : w ∈ lw_tbl) (hg : goodWord w = true) : w ∈ pb_G := List.mem_filter.mpr ⟨h, hg⟩
theorem pb_Gs {w : Cond} (h : w ∈ pb_G) : w ∈ lw_tbl := (List.mem_filter.mp h).1
theorem pb_Gg {w : Cond} (h : w ∈ pb_G) : (w.onTables && w.keeps) = true ∨ ∃ ty, w = .arrayClass ty := good_of_word (List.mem_filter.mp h).2
theorem i_Bk : ∀ w ∈ u_ws R_Bk F_Bk 9, w ∈ pb_G := by
  have h1 : ∀ w ∈ u_ws R_Bk F_Bk 9, w ∈ lw_tbl := by decide +kernel
  have h2 : ∀ w ∈ u_ws R_Bk F_Bk 9, goodWord w = true := by decide +kernel
  exact fun w h => pb_Gm (h1 w h) (h2 w h)
theorem i_Pn : ∀ w ∈ u_ws R_Pn F_Pn 5, w ∈ pb_G := by
  have h1 : ∀ w ∈ u_ws R_Pn F_Pn 5, w ∈ lw_tbl := by decide +kernel
  have h2 : ∀ w ∈ u_ws R_Pn F_Pn 5, goodWord w = true := by decide +kernel
  exact fun w h => pb_Gm (h1 w h) (h2 w h)
theorem i_Md : ∀ w ∈ u_ws R_Md F_Md 12, w ∈ pb_G := by
  have h1 : ∀ w ∈ u_ws R_Md F_Md 12, w ∈ lw_tbl := by decide +kernel
  have h2 : ∀ w ∈ u_ws R_Md F_Md 12, goodWord w = true := by decide +kernel
  exact fun w h => pb_Gm (h1 w h) (h2 w h)
abbrev b_Bk_init : ByteArray := prog_1_method_1_code
def y_Bk_init : MethodName := ⟨R_Bk, "<init>", "(I)V"⟩
abbrev b_Mt_min : ByteArray := prog_9_method_69_code
def y_Mt_min : MethodName := ⟨R_Mt, "min", "(II)I"⟩
abbrev b_Mt_max : ByteArray := prog_9_method_65_code
def y_Mt_max : MethodName := ⟨R_Mt, "max", "(II)I"⟩
abbrev b_Pn_init : ByteArray := prog_2_method_1_code
def y_Pn_init : MethodName := ⟨R_Pn, "<init>", "([[B)V"⟩
abbrev b_Bk_fillRoot : ByteArray := prog_1_method_7_code
def y_Bk_fillRoot : MethodName := ⟨R_Bk, "fillRoot", "(I)V"⟩
abbrev b_Bk_clear : ByteArray := prog_1_method_6_code
def y_Bk_clear : MethodName := ⟨R_Bk, "clear", "()V"⟩
abbrev b_Bk_seal : ByteArray := prog_1_method_5_code
def y_Bk_seal : MethodName := ⟨R_Bk, "seal", "()V"⟩
abbrev b_Bk_sumOf : ByteArray := prog_1_method_2_code
def y_Bk_sumOf : MethodName := ⟨R_Bk, "sumOf", "([B)I"⟩
abbrev b_In_rotateLeft : ByteArray := prog_8_method_50_code
def y_In_rotateLeft : MethodName := ⟨R_In, "rotateLeft", "(II)I"⟩
abbrev b_Bk_reopen : ByteArray := prog_1_method_20_code
def y_Bk_reopen : MethodName := ⟨R_Bk, "reopen", "()I"⟩
abbrev b_Bk_isRight : ByteArray := prog_1_method_4_code
def y_Bk_isRight : MethodName := ⟨R_Bk, "isRight", "(I)Z"⟩
abbrev b_Bk_told : ByteArray := prog_1_method_3_code
def y_Bk_told : MethodName := ⟨R_Bk, "told", "([B)I"⟩
abbrev b_Bk_reads : ByteArray := prog_1_method_21_code
def y_Bk_reads : MethodName := ⟨R_Bk, "reads", "([B)Z"⟩
abbrev b_Bk_isUsed : ByteArray := prog_1_method_12_code
def y_Bk_isUsed : MethodName := ⟨R_Bk, "isUsed", "(I)Z"⟩
abbrev b_Bk_sizeOf : ByteArray := prog_1_method_9_code
def y_Bk_sizeOf : MethodName := ⟨R_Bk, "sizeOf", "(I)I"⟩
abbrev b_Bk_feed : ByteArray := prog_1_method_8_code
def y_Bk_feed : MethodName := ⟨R_Bk, "feed", "(I)Z"⟩
abbrev b_Bk_put : ByteArray := prog_1_method_15_code
def y_Bk_put : MethodName := ⟨R_Bk, "put", "(I)I"⟩
abbrev b_Bk_isFed : ByteArray := prog_1_method_11_code
def y_Bk_isFed : MethodName := ⟨R_Bk, "isFed", "(I)Z"⟩
abbrev b_Bk_freeBlock : ByteArray := prog_1_method_13_code
def y_Bk_freeBlock : MethodName := ⟨R_Bk, "freeBlock", "()I"⟩
abbrev b_Pn_writeAll : ByteArray := prog_2_method_3_code
def y_Pn_writeAll : MethodName := ⟨R_Pn, "writeAll", "(I[B)V"⟩
abbrev b_Pn_write : ByteArray := prog_2_method_2_code
def y_Pn_write : MethodName := ⟨R_Pn, "write", "(IIB)V"⟩
abbrev b_Bk_turnTo : ByteArray := prog_1_method_14_code
def y_Bk_turnTo : MethodName := ⟨R_Bk, "turnTo", "()V"⟩
abbrev b_Bk_find : ByteArray := prog_1_method_16_code
def y_Bk_find : MethodName := ⟨R_Bk, "find", "(II)I"⟩
abbrev b_Bk_nameOf : ByteArray := prog_1_method_10_code
def y_Bk_nameOf : MethodName := ⟨R_Bk, "nameOf", "(I)I"⟩
abbrev b_Bk_entry : ByteArray := prog_1_method_17_code
def y_Bk_entry : MethodName := ⟨R_Bk, "entry", "(II)I"⟩
abbrev b_Bk_drop : ByteArray := prog_1_method_18_code
def y_Bk_drop : MethodName := ⟨R_Bk, "drop", "(I)Z"⟩
abbrev b_Bk_crash : ByteArray := prog_1_method_19_code
def y_Bk_crash : MethodName := ⟨R_Bk, "crash", "(I)Z"⟩
abbrev b_Pn_takeBack : ByteArray := prog_2_method_4_code
def y_Pn_takeBack : MethodName := ⟨R_Pn, "takeBack", "(I)V"⟩
abbrev b_Bk_poke : ByteArray := prog_1_method_22_code
def y_Bk_poke : MethodName := ⟨R_Bk, "poke", "(III)Z"⟩
abbrev b_Bk_badAt : ByteArray := prog_1_method_23_code
def y_Bk_badAt : MethodName := ⟨R_Bk, "badAt", "()I"⟩
abbrev b_Bk_free : ByteArray := prog_1_method_25_code
def y_Bk_free : MethodName := ⟨R_Bk, "free", "()I"⟩
abbrev b_Bk_root : ByteArray := prog_1_method_26_code
def y_Bk_root : MethodName := ⟨R_Bk, "root", "()I"⟩
abbrev b_Lw_cell : ByteArray := method_2_code
def y_Lw_cell : MethodName := ⟨R_law2, "cell", "([II)I"⟩
abbrev b_Lw_byteAt : ByteArray := method_3_code
def y_Lw_byteAt : MethodName := ⟨R_law2, "byteAt", "(LPuzzleBook;II[J)I"⟩
abbrev b_Bk_byteAt : ByteArray := prog_1_method_24_code
def y_Bk_byteAt : MethodName := ⟨R_Bk, "byteAt", "(II)I"⟩
abbrev b_Md_init : ByteArray := prog_4_method_1_code
def y_Md_init : MethodName := ⟨R_Md, "<init>", "(I)V"⟩
abbrev b_Md_writeRoot : ByteArray := prog_4_method_7_code
def y_Md_writeRoot : MethodName := ⟨R_Md, "writeRoot", "(II)V"⟩
abbrev b_Md_write : ByteArray := prog_4_method_5_code
def y_Md_write : MethodName := ⟨R_Md, "write", "(II)V"⟩
abbrev b_Md_writeSum : ByteArray := prog_4_method_6_code
def y_Md_writeSum : MethodName := ⟨R_Md, "writeSum", "(I)V"⟩
abbrev b_Md_sumOf : ByteArray := prog_4_method_3_code
def y_Md_sumOf : MethodName := ⟨R_Md, "sumOf", "(I)I"⟩
abbrev b_Md_thrown : ByteArray := prog_4_method_2_code
def y_Md_thrown : MethodName := ⟨R_Md, "thrown", "()I"⟩
abbrev b_Md_feed : ByteArray := prog_4_method_15_code
def y_Md_feed : MethodName := ⟨R_Md, "feed", "(I)Z"⟩
abbrev b_Md_put : ByteArray := prog_4_method_16_code
def y_Md_put : MethodName := ⟨R_Md, "put", "(I)I"⟩
abbrev b_Md_hasFed : ByteArray := prog_4_method_14_code
def y_Md_hasFed : MethodName := ⟨R_Md, "hasFed", "(I)Z"⟩
abbrev b_Md_longOf : ByteArray := prog_4_method_13_code
def y_Md_longOf : MethodName := ⟨R_Md, "longOf", "(I)I"⟩
abbrev b_Md_leastFree : ByteArray := prog_4_method_11_code
def y_Md_leastFree : MethodName := ⟨R_Md, "leastFree", "()I"⟩
abbrev b_Md_isUsed : ByteArray := prog_4_method_10_code
def y_Md_isUsed : MethodName := ⟨R_Md, "isUsed", "(I)Z"⟩
abbrev b_Md_writeEntry : ByteArray := prog_4_method_8_code
def y_Md_writeEntry : MethodName := ⟨R_Md, "writeEntry", "(II)V"⟩
abbrev b_Md_turnTo : ByteArray := prog_4_method_9_code
def y_Md_turnTo : MethodName := ⟨R_Md, "turnTo", "(I)V"⟩
abbrev b_Md_drop : ByteArray := prog_4_method_17_code
def y_Md_drop : MethodName := ⟨R_Md, "drop", "(I)Z"⟩
abbrev b_Md_find : ByteArray := prog_4_method_18_code
def y_Md_find : MethodName := ⟨R_Md, "find", "(II)I"⟩
abbrev b_Md_nameOf : ByteArray := prog_4_method_12_code
def y_Md_nameOf : MethodName := ⟨R_Md, "nameOf", "(I)I"⟩
abbrev b_Md_entry : ByteArray := prog_4_method_19_code
def y_Md_entry : MethodName := ⟨R_Md, "entry", "(II)I"⟩
abbrev b_Md_crash : ByteArray := prog_4_method_20_code
def y_Md_crash : MethodName := ⟨R_Md, "crash", "(I)Z"⟩
abbrev b_Md_reopen : ByteArray := prog_4_method_23_code
def y_Md_reopen : MethodName := ⟨R_Md, "reopen", "()I"⟩
abbrev b_Md_rootIsRight : ByteArray := prog_4_method_21_code
def y_Md_rootIsRight : MethodName := ⟨R_Md, "rootIsRight", "(I)Z"⟩
abbrev b_Md_isRight : ByteArray := prog_4_method_4_code
def y_Md_isRight : MethodName := ⟨R_Md, "isRight", "(I)Z"⟩
abbrev b_Md_entryIsRight : ByteArray := prog_4_method_22_code
def y_Md_entryIsRight : MethodName := ⟨R_Md, "entryIsRight", "(I)Z"⟩
abbrev b_Md_poke : ByteArray := prog_4_method_25_code
def y_Md_poke : MethodName := ⟨R_Md, "poke", "(III)Z"⟩
abbrev b_Md_isByte : ByteArray := prog_4_method_24_code
def y_Md_isByte : MethodName := ⟨R_Md, "isByte", "(II)Z"⟩
abbrev b_Md_badAt : ByteArray := prog_4_method_26_code
def y_Md_badAt : MethodName := ⟨R_Md, "badAt", "()I"⟩
abbrev b_Md_byteAt : ByteArray := prog_4_method_27_code
def y_Md_byteAt : MethodName := ⟨R_Md, "byteAt", "(II)I"⟩
abbrev b_Md_free : ByteArray := prog_4_method_28_code
def y_Md_free : MethodName := ⟨R_Md, "free", "()I"⟩
abbrev b_Md_root : ByteArray := prog_4_method_29_code
def y_Md_root : MethodName := ⟨R_Md, "root", "()I"⟩
theorem m_0 : (.initialized "PuzzleBookLaw" : Cond) ∈ pb_G := pb_Gm (List.mem_of_getElem? (i := 27) rfl) rfl
theorem m_1 : (.initialized "PuzzleBook" : Cond) ∈ pb_G := pb_Gm (List.mem_of_getElem? (i := 28) rfl) rfl
theorem m_2 : (.initialized "java/lang/Math" : Cond) ∈ pb_G := pb_Gm (List.mem_of_getElem? (i := 29) rfl) rfl
theorem m_3 : (.initialized "PuzzleBook$Pen" : Cond) ∈ pb_G := pb_Gm (List.mem_of_getElem? (i := 30) rfl) rfl
theorem m_4 : (.initialized "java/lang/Integer" : Cond) ∈ pb_G := pb_Gm (List.mem_of_getElem? (i := 31) rfl) rfl
theorem m_5 : (.initialized "PuzzleBookModel" : Cond) ∈ pb_G := pb_Gm (List.mem_of_getElem? (i := 32) rfl) rfl
theorem m_12 : (.classLink "PuzzleBookLaw" 8 "PuzzleBook" : Cond) ∈ pb_G := pb_Gm (List.mem_of_getElem? (i := 39) rfl) rfl
theorem m_13 : (.instantiable "PuzzleBook" 9 : Cond) ∈ pb_G := pb_Gm (List.mem_of_getElem? (i := 40) rfl) rfl
theorem m_14 : (.methodLink "PuzzleBookLaw" 21 y_Bk_init : Cond) ∈ pb_G := pb_Gm (List.mem_of_getElem? (i := 41) rfl) rfl
theorem m_15 : (.instanceMethod y_Bk_init : Cond) ∈ pb_G := pb_Gm (List.mem_of_getElem? (i := 42) rfl) rfl
theorem m_16 : (.code y_Bk_init prog_1_method_1_code 3 none : Cond) ∈ pb_G := pb_Gm (List.mem_of_getElem? (i := 43) rfl) rfl
theorem m_17 : (.methodLink "PuzzleBook" 1 ⟨"java/lang/Object", "<init>", "()V"⟩ : Cond) ∈ pb_G := pb_Gm (List.mem_of_getElem? (i := 44) rfl) rfl
theorem m_18 : (.instanceMethod ⟨"java/lang/Object", "<init>", "()V"⟩ : Cond) ∈ pb_G := pb_Gm (List.mem_of_getElem? (i := 45) rfl) rfl
theorem m_19 : (.code ⟨"java/lang/Object", "<init>", "()V"⟩ object_method_1_code 1 none : Cond) ∈ pb_G := pb_Gm (List.mem_of_getElem? (i := 46) rfl) rfl
theorem m_20 : (.methodLink "PuzzleBook" 20 y_Mt_min : Cond) ∈ pb_G := pb_Gm (List.mem_of_getElem? (i := 47) rfl) rfl
theorem m_21 : (.static y_Mt_min : Cond) ∈ pb_G := pb_Gm (List.mem_of_getElem? (i := 48) rfl) rfl
theorem m_22 : (.code y_Mt_min prog_9_method_69_code 2 (some .int) : Cond) ∈ pb_G := pb_Gm (List.mem_of_getElem? (i := 49) rfl) rfl
theorem m_23 : (.methodLink "PuzzleBook" 26 y_Mt_max : Cond) ∈ pb_G := pb_Gm (List.mem_of_getElem? (i := 50) rfl) rfl
theorem m_24 : (.static y_Mt_max : Cond) ∈ pb_G := pb_Gm (List.mem_of_getElem? (i := 51) rfl) rfl
theorem m_25 : (.code y_Mt_max prog_9_method_65_code 2 (some .int) : Cond) ∈ pb_G := pb_Gm (List.mem_of_getElem? (i := 52) rfl) rfl
theorem m_26 : (.classLink "PuzzleBook" 29 "[[B" : Cond) ∈ pb_G := pb_Gm (List.mem_of_getElem? (i := 53) rfl) rfl
theorem m_28 : (.classLink "PuzzleBook" 34 "PuzzleBook$Pen" : Cond) ∈ pb_G := pb_Gm (List.mem_of_getElem? (i := 55) rfl) rfl
theorem m_29 : (.instantiable "PuzzleBook$Pen" 5 : Cond) ∈ pb_G := pb_Gm (List.mem_of_getElem? (i := 56) rfl) rfl
theorem m_30 : (.methodLink "PuzzleBook" 36 y_Pn_init : Cond) ∈ pb_G := pb_Gm (List.mem_of_getElem? (i := 57) rfl) rfl
theorem m_31 : (.instanceMethod y_Pn_init : Cond) ∈ pb_G := pb_Gm (List.mem_of_getElem? (i := 58) rfl) rfl
theorem m_32 : (.code y_Pn_init prog_2_method_1_code 2 none : Cond) ∈ pb_G := pb_Gm (List.mem_of_getElem? (i := 59) rfl) rfl
theorem m_33 : (.methodLink "PuzzleBook$Pen" 3 ⟨"java/lang/Object", "<init>", "()V"⟩ : Cond) ∈ pb_G := pb_Gm (List.mem_of_getElem? (i := 60) rfl) rfl
theorem m_34 : (.fieldLink "PuzzleBook$Pen" 22 "PuzzleBook$Pen" "store" "[[B" : Cond) ∈ pb_G := pb_Gm (List.mem_of_getElem? (i := 61) rfl) rfl
theorem m_35 : (.fieldLink "PuzzleBook$Pen" 9 "PuzzleBook$Pen" "blocks" "[I" : Cond) ∈ pb_G := pb_Gm (List.mem_of_getElem? (i := 62) rfl) rfl
theorem m_36 : (.fieldLink "PuzzleBook$Pen" 15 "PuzzleBook$Pen" "places" "[I" : Cond) ∈ pb_G := pb_Gm (List.mem_of_getElem? (i := 63) rfl) rfl
theorem m_37 : (.fieldLink "PuzzleBook$Pen" 18 "PuzzleBook$Pen" "was" "[B" : Cond) ∈ pb_G := pb_Gm (List.mem_of_getElem? (i := 64) rfl) rfl
theorem m_38 : (.fieldLink "PuzzleBook$Pen" 26 "PuzzleBook$Pen" "size" "I" : Cond) ∈ pb_G := pb_Gm (List.mem_of_getElem? (i := 65) rfl) rfl
theorem m_51 : (.arrayClass .byte : Cond) ∈ pb_G := pb_Gm (List.mem_of_getElem? (i := 78) rfl) rfl
theorem m_52 : (.arrayClass .int : Cond) ∈ pb_G := pb_Gm (List.mem_of_getElem? (i := 79) rfl) rfl
theorem m_53 : (.methodLink "PuzzleBook" 43 y_Bk_fillRoot : Cond) ∈ pb_G := pb_Gm (List.mem_of_getElem? (i := 80) rfl) rfl
theorem m_55 : (.instanceMethod y_Bk_fillRoot : Cond) ∈ pb_G := pb_Gm (List.mem_of_getElem? (i := 82) rfl) rfl
theorem m_56 : (.code y_Bk_fillRoot prog_1_method_7_code 4 none : Cond) ∈ pb_G := pb_Gm (List.mem_of_getElem? (i := 83) rfl) rfl
theorem m_57 : (.methodLink "PuzzleBook" 64 y_Bk_clear : Cond) ∈ pb_G := pb_Gm (List.mem_of_getElem? (i := 84) rfl) rfl
theorem m_59 : (.instanceMethod y_Bk_clear : Cond) ∈ pb_G := pb_Gm (List.mem_of_getElem? (i := 86) rfl) rfl
theorem m_60 : (.code y_Bk_clear prog_1_method_6_code 2 none : Cond) ∈ pb_G := pb_Gm (List.mem_of_getElem? (i := 87) rfl) rfl
theorem m_61 : (.methodLink "PuzzleBook" 71 y_Bk_seal : Cond) ∈ pb_G := pb_Gm (List.mem_of_getElem? (i := 88) rfl) rfl
theorem m_63 : (.instanceMethod y_Bk_seal : Cond) ∈ pb_G := pb_Gm (List.mem_of_getElem? (i := 90) rfl) rfl
theorem m_64 : (.code y_Bk_seal prog_1_method_5_code 3 none : Cond) ∈ pb_G := pb_Gm (List.mem_of_getElem? (i := 91) rfl) rfl
theorem m_65 : (.methodLink "PuzzleBook" 57 y_Bk_sumOf : Cond) ∈ pb_G := pb_Gm (List.mem_of_getElem? (i := 92) rfl) rfl
theorem m_66 : (.static y_Bk_sumOf : Cond) ∈ pb_G := pb_Gm (List.mem_of_getElem? (i := 93) rfl) rfl
theorem m_67 : (.code y_Bk_sumOf prog_1_method_2_code 3 (some .int) : Cond) ∈ pb_G := pb_Gm (List.mem_of_getElem? (i := 94) rfl) rfl
theorem m_68 : (.methodLink "PuzzleBook" 51 y_In_rotateLeft : Cond) ∈ pb_G := pb_Gm (List.mem_of_getElem? (i := 95) rfl) rfl
theorem m_69 : (.static y_In_rotateLeft : Cond) ∈ pb_G := pb_Gm (List.mem_of_getElem? (i := 96) rfl) rfl
theorem m_70 : (.code y_In_rotateLeft prog_8_method_50_code 2 (some .int) : Cond) ∈ pb_G := pb_Gm (List.mem_of_getElem? (i := 97) rfl) rfl
theorem m_71 : (.constant "PuzzleBook" 56 (-2048144789 : Int32) : Cond) ∈ pb_G := pb_Gm (List.mem_of_getElem? (i := 98) rfl) rfl
theorem m_72 : (.methodLink "PuzzleBook" 47 y_Bk_reopen : Cond) ∈ pb_G := pb_Gm (List.mem_of_getElem? (i := 99) rfl) rfl
theorem m_73 : (.instanceMethod y_Bk_reopen : Cond) ∈ pb_G := pb_Gm (List.mem_of_getElem? (i := 100) rfl) rfl
theorem m_74 : (.selects "PuzzleBook" y_Bk_reopen y_Bk_reopen : Cond) ∈ pb_G := pb_Gm (List.mem_of_getElem? (i := 101) rfl) rfl
theorem m_75 : (.code y_Bk_reopen prog_1_method_20_code 3 (some .int) : Cond) ∈ pb_G := pb_Gm (List.mem_of_getElem? (i := 102) rfl) rfl
theorem m_76 : (.methodLink "PuzzleBook" 119 y_Bk_isRight : Cond) ∈ pb_G := pb_Gm (List.mem_of_getElem? (i := 103) rfl) rfl
theorem m_78 : (.instanceMethod y_Bk_isRight : Cond) ∈ pb_G := pb_Gm (List.mem_of_getElem? (i := 105) rfl) rfl
theorem m_79 : (.code y_Bk_isRight prog_1_method_4_code 2 (some .boolean) : Cond) ∈ pb_G := pb_Gm (List.mem_of_getElem? (i := 106) rfl) rfl
theorem m_80 : (.methodLink "PuzzleBook" 61 y_Bk_told : Cond) ∈ pb_G := pb_Gm (List.mem_of_getElem? (i := 107) rfl) rfl
theorem m_81 : (.static y_Bk_told : Cond) ∈ pb_G := pb_Gm (List.mem_of_getElem? (i := 108) rfl) rfl
theorem m_82 : (.code y_Bk_told prog_1_method_3_code 1 (some .int) : Cond) ∈ pb_G := pb_Gm (List.mem_of_getElem? (i := 109) rfl) rfl
theorem m_83 : (.methodLink "PuzzleBook" 122 y_Bk_reads : Cond) ∈ pb_G := pb_Gm (List.mem_of_getElem? (i := 110) rfl) rfl
theorem m_85 : (.instanceMethod y_Bk_reads : Cond) ∈ pb_G := pb_Gm (List.mem_of_getElem? (i := 112) rfl) rfl
theorem m_86 : (.code y_Bk_reads prog_1_method_21_code 5 (some .boolean) : Cond) ∈ pb_G := pb_Gm (List.mem_of_getElem? (i := 113) rfl) rfl
theorem m_87 : (.methodLink "PuzzleBook" 81 y_Bk_isUsed : Cond) ∈ pb_G := pb_Gm (List.mem_of_getElem? (i := 114) rfl) rfl
theorem m_89 : (.instanceMethod y_Bk_isUsed : Cond) ∈ pb_G := pb_Gm (List.mem_of_getElem? (i := 116) rfl) rfl
theorem m_90 : (.code y_Bk_isUsed prog_1_method_12_code 3 (some .boolean) : Cond) ∈ pb_G := pb_Gm (List.mem_of_getElem? (i := 117) rfl) rfl
theorem m_91 : (.methodLink "PuzzleBook" 77 y_Bk_sizeOf : Cond) ∈ pb_G := pb_Gm (List.mem_of_getElem? (i := 118) rfl) rfl
theorem m_93 : (.instanceMethod y_Bk_sizeOf : Cond) ∈ pb_G := pb_Gm (List.mem_of_getElem? (i := 120) rfl) rfl
theorem m_94 : (.code y_Bk_sizeOf prog_1_method_9_code 2 (some .int) : Cond) ∈ pb_G := pb_Gm (List.mem_of_getElem? (i := 121) rfl) rfl
theorem m_95 : (.fieldLink "PuzzleBook" 31 "PuzzleBook" "store" "[[B" : Cond) ∈ pb_G := pb_Gm (List.mem_of_getElem? (i := 122) rfl) rfl
theorem m_96 : (.fieldLink "PuzzleBook" 39 "PuzzleBook" "pen" "LPuzzleBook$Pen;" : Cond) ∈ pb_G := pb_Gm (List.mem_of_getElem? (i := 123) rfl) rfl
theorem m_97 : (.fieldLink "PuzzleBook" 9 "PuzzleBook" "fed" "[B" : Cond) ∈ pb_G := pb_Gm (List.mem_of_getElem? (i := 124) rfl) rfl
theorem m_98 : (.fieldLink "PuzzleBook" 13 "PuzzleBook" "page" "[B" : Cond) ∈ pb_G := pb_Gm (List.mem_of_getElem? (i := 125) rfl) rfl
theorem m_99 : (.fieldLink "PuzzleBook" 74 "PuzzleBook" "fedSize" "I" : Cond) ∈ pb_G := pb_Gm (List.mem_of_getElem? (i := 126) rfl) rfl
theorem m_100 : (.fieldLink "PuzzleBook" 96 "PuzzleBook" "isOpen" "Z" : Cond) ∈ pb_G := pb_Gm (List.mem_of_getElem? (i := 127) rfl) rfl
theorem m_101 : (.fieldLink "PuzzleBook" 85 "PuzzleBook" "turn" "I" : Cond) ∈ pb_G := pb_Gm (List.mem_of_getElem? (i := 128) rfl) rfl
theorem m_102 : (.fieldLink "PuzzleBook" 16 "PuzzleBook" "entries" "[I" : Cond) ∈ pb_G := pb_Gm (List.mem_of_getElem? (i := 129) rfl) rfl
theorem m_103 : (.fieldLink "PuzzleBook" 67 "PuzzleBook" "many" "I" : Cond) ∈ pb_G := pb_Gm (List.mem_of_getElem? (i := 130) rfl) rfl
theorem m_123 : (.methodLink "PuzzleBookLaw" 27 y_Bk_feed : Cond) ∈ pb_G := pb_Gm (List.mem_of_getElem? (i := 150) rfl) rfl
theorem m_124 : (.instanceMethod y_Bk_feed : Cond) ∈ pb_G := pb_Gm (List.mem_of_getElem? (i := 151) rfl) rfl
theorem m_125 : (.selects "PuzzleBook" y_Bk_feed y_Bk_feed : Cond) ∈ pb_G := pb_Gm (List.mem_of_getElem? (i := 152) rfl) rfl
theorem m_126 : (.code y_Bk_feed prog_1_method_8_code 2 (some .boolean) : Cond) ∈ pb_G := pb_Gm (List.mem_of_getElem? (i := 153) rfl) rfl
theorem m_127 : (.methodLink "PuzzleBookLaw" 32 y_Bk_put : Cond) ∈ pb_G := pb_Gm (List.mem_of_getElem? (i := 154) rfl) rfl
theorem m_128 : (.instanceMethod y_Bk_put : Cond) ∈ pb_G := pb_Gm (List.mem_of_getElem? (i := 155) rfl) rfl
theorem m_129 : (.selects "PuzzleBook" y_Bk_put y_Bk_put : Cond) ∈ pb_G := pb_Gm (List.mem_of_getElem? (i := 156) rfl) rfl
theorem m_130 : (.code y_Bk_put prog_1_method_15_code 4 (some .int) : Cond) ∈ pb_G := pb_Gm (List.mem_of_getElem? (i := 157) rfl) rfl
theorem m_131 : (.constant "PuzzleBook" 100 (65535 : Int32) : Cond) ∈ pb_G := pb_Gm (List.mem_of_getElem? (i := 158) rfl) rfl
theorem m_132 : (.methodLink "PuzzleBook" 101 y_Bk_isFed : Cond) ∈ pb_G := pb_Gm (List.mem_of_getElem? (i := 159) rfl) rfl
theorem m_134 : (.instanceMethod y_Bk_isFed : Cond) ∈ pb_G := pb_Gm (List.mem_of_getElem? (i := 161) rfl) rfl
theorem m_135 : (.code y_Bk_isFed prog_1_method_11_code 3 (some .boolean) : Cond) ∈ pb_G := pb_Gm (List.mem_of_getElem? (i := 162) rfl) rfl
theorem m_136 : (.methodLink "PuzzleBook" 104 y_Bk_freeBlock : Cond) ∈ pb_G := pb_Gm (List.mem_of_getElem? (i := 163) rfl) rfl
theorem m_138 : (.instanceMethod y_Bk_freeBlock : Cond) ∈ pb_G := pb_Gm (List.mem_of_getElem? (i := 165) rfl) rfl
theorem m_139 : (.code y_Bk_freeBlock prog_1_method_13_code 2 (some .int) : Cond) ∈ pb_G := pb_Gm (List.mem_of_getElem? (i := 166) rfl) rfl
theorem m_140 : (.methodLink "PuzzleBook" 88 y_Pn_writeAll : Cond) ∈ pb_G := pb_Gm (List.mem_of_getElem? (i := 167) rfl) rfl
theorem m_141 : (.instanceMethod y_Pn_writeAll : Cond) ∈ pb_G := pb_Gm (List.mem_of_getElem? (i := 168) rfl) rfl
theorem m_142 : (.selects "PuzzleBook$Pen" y_Pn_writeAll y_Pn_writeAll : Cond) ∈ pb_G := pb_Gm (List.mem_of_getElem? (i := 169) rfl) rfl
theorem m_143 : (.code y_Pn_writeAll prog_2_method_3_code 4 none : Cond) ∈ pb_G := pb_Gm (List.mem_of_getElem? (i := 170) rfl) rfl
theorem m_144 : (.methodLink "PuzzleBook$Pen" 30 y_Pn_write : Cond) ∈ pb_G := pb_Gm (List.mem_of_getElem? (i := 171) rfl) rfl
theorem m_145 : (.instanceMethod y_Pn_write : Cond) ∈ pb_G := pb_Gm (List.mem_of_getElem? (i := 172) rfl) rfl
theorem m_146 : (.selects "PuzzleBook$Pen" y_Pn_write y_Pn_write : Cond) ∈ pb_G := pb_Gm (List.mem_of_getElem? (i := 173) rfl) rfl
theorem m_147 : (.code y_Pn_write prog_2_method_2_code 4 none : Cond) ∈ pb_G := pb_Gm (List.mem_of_getElem? (i := 174) rfl) rfl
theorem m_148 : (.methodLink "PuzzleBook" 110 y_Bk_turnTo : Cond) ∈ pb_G := pb_Gm (List.mem_of_getElem? (i := 175) rfl) rfl
theorem m_150 : (.instanceMethod y_Bk_turnTo : Cond) ∈ pb_G := pb_Gm (List.mem_of_getElem? (i := 177) rfl) rfl
theorem m_151 : (.code y_Bk_turnTo prog_1_method_14_code 1 none : Cond) ∈ pb_G := pb_Gm (List.mem_of_getElem? (i := 178) rfl) rfl
theorem m_152 : (.methodLink "PuzzleBook" 92 y_Pn_write : Cond) ∈ pb_G := pb_Gm (List.mem_of_getElem? (i := 179) rfl) rfl
theorem m_153 : (.methodLink "PuzzleBookLaw" 37 y_Bk_find : Cond) ∈ pb_G := pb_Gm (List.mem_of_getElem? (i := 180) rfl) rfl
theorem m_154 : (.instanceMethod y_Bk_find : Cond) ∈ pb_G := pb_Gm (List.mem_of_getElem? (i := 181) rfl) rfl
theorem m_155 : (.selects "PuzzleBook" y_Bk_find y_Bk_find : Cond) ∈ pb_G := pb_Gm (List.mem_of_getElem? (i := 182) rfl) rfl
theorem m_156 : (.code y_Bk_find prog_1_method_16_code 4 (some .int) : Cond) ∈ pb_G := pb_Gm (List.mem_of_getElem? (i := 183) rfl) rfl
theorem m_157 : (.methodLink "PuzzleBook" 113 y_Bk_nameOf : Cond) ∈ pb_G := pb_Gm (List.mem_of_getElem? (i := 184) rfl) rfl
theorem m_159 : (.instanceMethod y_Bk_nameOf : Cond) ∈ pb_G := pb_Gm (List.mem_of_getElem? (i := 186) rfl) rfl
theorem m_160 : (.code y_Bk_nameOf prog_1_method_10_code 2 (some .int) : Cond) ∈ pb_G := pb_Gm (List.mem_of_getElem? (i := 187) rfl) rfl
theorem m_161 : (.methodLink "PuzzleBookLaw" 41 y_Bk_entry : Cond) ∈ pb_G := pb_Gm (List.mem_of_getElem? (i := 188) rfl) rfl
theorem m_162 : (.instanceMethod y_Bk_entry : Cond) ∈ pb_G := pb_Gm (List.mem_of_getElem? (i := 189) rfl) rfl
theorem m_163 : (.selects "PuzzleBook" y_Bk_entry y_Bk_entry : Cond) ∈ pb_G := pb_Gm (List.mem_of_getElem? (i := 190) rfl) rfl
theorem m_164 : (.code y_Bk_entry prog_1_method_17_code 3 (some .int) : Cond) ∈ pb_G := pb_Gm (List.mem_of_getElem? (i := 191) rfl) rfl
theorem m_165 : (.methodLink "PuzzleBookLaw" 45 y_Bk_drop : Cond) ∈ pb_G := pb_Gm (List.mem_of_getElem? (i := 192) rfl) rfl
theorem m_166 : (.instanceMethod y_Bk_drop : Cond) ∈ pb_G := pb_Gm (List.mem_of_getElem? (i := 193) rfl) rfl
theorem m_167 : (.selects "PuzzleBook" y_Bk_drop y_Bk_drop : Cond) ∈ pb_G := pb_Gm (List.mem_of_getElem? (i := 194) rfl) rfl
theorem m_168 : (.code y_Bk_drop prog_1_method_18_code 3 (some .boolean) : Cond) ∈ pb_G := pb_Gm (List.mem_of_getElem? (i := 195) rfl) rfl
theorem m_169 : (.methodLink "PuzzleBookLaw" 49 y_Bk_crash : Cond) ∈ pb_G := pb_Gm (List.mem_of_getElem? (i := 196) rfl) rfl
theorem m_170 : (.instanceMethod y_Bk_crash : Cond) ∈ pb_G := pb_Gm (List.mem_of_getElem? (i := 197) rfl) rfl
theorem m_171 : (.selects "PuzzleBook" y_Bk_crash y_Bk_crash : Cond) ∈ pb_G := pb_Gm (List.mem_of_getElem? (i := 198) rfl) rfl
theorem m_172 : (.code y_Bk_crash prog_1_method_19_code 2 (some .boolean) : Cond) ∈ pb_G := pb_Gm (List.mem_of_getElem? (i := 199) rfl) rfl
theorem m_173 : (.methodLink "PuzzleBook" 116 y_Pn_takeBack : Cond) ∈ pb_G := pb_Gm (List.mem_of_getElem? (i := 200) rfl) rfl
theorem m_174 : (.instanceMethod y_Pn_takeBack : Cond) ∈ pb_G := pb_Gm (List.mem_of_getElem? (i := 201) rfl) rfl
theorem m_175 : (.selects "PuzzleBook$Pen" y_Pn_takeBack y_Pn_takeBack : Cond) ∈ pb_G := pb_Gm (List.mem_of_getElem? (i := 202) rfl) rfl
theorem m_176 : (.code y_Pn_takeBack prog_2_method_4_code 3 none : Cond) ∈ pb_G := pb_Gm (List.mem_of_getElem? (i := 203) rfl) rfl
theorem m_177 : (.methodLink "PuzzleBookLaw" 53 y_Bk_reopen : Cond) ∈ pb_G := pb_Gm (List.mem_of_getElem? (i := 204) rfl) rfl
theorem m_178 : (.methodLink "PuzzleBookLaw" 58 y_Bk_poke : Cond) ∈ pb_G := pb_Gm (List.mem_of_getElem? (i := 205) rfl) rfl
theorem m_179 : (.instanceMethod y_Bk_poke : Cond) ∈ pb_G := pb_Gm (List.mem_of_getElem? (i := 206) rfl) rfl
theorem m_180 : (.selects "PuzzleBook" y_Bk_poke y_Bk_poke : Cond) ∈ pb_G := pb_Gm (List.mem_of_getElem? (i := 207) rfl) rfl
theorem m_181 : (.code y_Bk_poke prog_1_method_22_code 4 (some .boolean) : Cond) ∈ pb_G := pb_Gm (List.mem_of_getElem? (i := 208) rfl) rfl
theorem m_182 : (.methodLink "PuzzleBookLaw" 63 y_Bk_badAt : Cond) ∈ pb_G := pb_Gm (List.mem_of_getElem? (i := 209) rfl) rfl
theorem m_183 : (.instanceMethod y_Bk_badAt : Cond) ∈ pb_G := pb_Gm (List.mem_of_getElem? (i := 210) rfl) rfl
theorem m_184 : (.selects "PuzzleBook" y_Bk_badAt y_Bk_badAt : Cond) ∈ pb_G := pb_Gm (List.mem_of_getElem? (i := 211) rfl) rfl
theorem m_185 : (.code y_Bk_badAt prog_1_method_23_code 2 (some .int) : Cond) ∈ pb_G := pb_Gm (List.mem_of_getElem? (i := 212) rfl) rfl
theorem m_186 : (.methodLink "PuzzleBookLaw" 74 y_Bk_free : Cond) ∈ pb_G := pb_Gm (List.mem_of_getElem? (i := 213) rfl) rfl
theorem m_187 : (.instanceMethod y_Bk_free : Cond) ∈ pb_G := pb_Gm (List.mem_of_getElem? (i := 214) rfl) rfl
theorem m_188 : (.selects "PuzzleBook" y_Bk_free y_Bk_free : Cond) ∈ pb_G := pb_Gm (List.mem_of_getElem? (i := 215) rfl) rfl
theorem m_189 : (.code y_Bk_free prog_1_method_25_code 1 (some .int) : Cond) ∈ pb_G := pb_Gm (List.mem_of_getElem? (i := 216) rfl) rfl
theorem m_190 : (.methodLink "PuzzleBookLaw" 78 y_Bk_root : Cond) ∈ pb_G := pb_Gm (List.mem_of_getElem? (i := 217) rfl) rfl
theorem m_191 : (.instanceMethod y_Bk_root : Cond) ∈ pb_G := pb_Gm (List.mem_of_getElem? (i := 218) rfl) rfl
theorem m_192 : (.selects "PuzzleBook" y_Bk_root y_Bk_root : Cond) ∈ pb_G := pb_Gm (List.mem_of_getElem? (i := 219) rfl) rfl
theorem m_193 : (.code y_Bk_root prog_1_method_26_code 1 (some .int) : Cond) ∈ pb_G := pb_Gm (List.mem_of_getElem? (i := 220) rfl) rfl
theorem m_194 : (.methodLink "PuzzleBookLaw" 15 y_Lw_cell : Cond) ∈ pb_G := pb_Gm (List.mem_of_getElem? (i := 221) rfl) rfl
theorem m_195 : (.static y_Lw_cell : Cond) ∈ pb_G := pb_Gm (List.mem_of_getElem? (i := 222) rfl) rfl
theorem m_196 : (.code y_Lw_cell method_2_code 2 (some .int) : Cond) ∈ pb_G := pb_Gm (List.mem_of_getElem? (i := 223) rfl) rfl
theorem m_197 : (.methodLink "PuzzleBookLaw" 67 y_Lw_byteAt : Cond) ∈ pb_G := pb_Gm (List.mem_of_getElem? (i := 224) rfl) rfl
theorem m_198 : (.static y_Lw_byteAt : Cond) ∈ pb_G := pb_Gm (List.mem_of_getElem? (i := 225) rfl) rfl
theorem m_273 : (.methodLink "PuzzleBookLaw" 7 y_Bk_byteAt : Cond) ∈ pb_G := pb_Gm (List.mem_of_getElem? (i := 300) rfl) rfl
theorem m_274 : (.instanceMethod y_Bk_byteAt : Cond) ∈ pb_G := pb_Gm (List.mem_of_getElem? (i := 301) rfl) rfl
theorem m_275 : (.selects "PuzzleBook" y_Bk_byteAt y_Bk_byteAt : Cond) ∈ pb_G := pb_Gm (List.mem_of_getElem? (i := 302) rfl) rfl
theorem m_276 : (.code y_Bk_byteAt prog_1_method_24_code 3 (some .int) : Cond) ∈ pb_G := pb_Gm (List.mem_of_getElem? (i := 303) rfl) rfl
theorem m_277 : (.classLink "PuzzleBookLaw" 24 "PuzzleBookModel" : Cond) ∈ pb_G := pb_Gm (List.mem_of_getElem? (i := 304) rfl) rfl
theorem m_278 : (.instantiable "PuzzleBookModel" 12 : Cond) ∈ pb_G := pb_Gm (List.mem_of_getElem? (i := 305) rfl) rfl
theorem m_279 : (.methodLink "PuzzleBookLaw" 26 y_Md_init : Cond) ∈ pb_G := pb_Gm (List.mem_of_getElem? (i := 306) rfl) rfl
theorem m_280 : (.instanceMethod y_Md_init : Cond) ∈ pb_G := pb_Gm (List.mem_of_getElem? (i := 307) rfl) rfl
theorem m_281 : (.code y_Md_init prog_4_method_1_code 2 none : Cond) ∈ pb_G := pb_Gm (List.mem_of_getElem? (i := 308) rfl) rfl
theorem m_282 : (.methodLink "PuzzleBookModel" 1 ⟨"java/lang/Object", "<init>", "()V"⟩ : Cond) ∈ pb_G := pb_Gm (List.mem_of_getElem? (i := 309) rfl) rfl
theorem m_283 : (.methodLink "PuzzleBookModel" 36 y_Md_writeRoot : Cond) ∈ pb_G := pb_Gm (List.mem_of_getElem? (i := 310) rfl) rfl
theorem m_285 : (.instanceMethod y_Md_writeRoot : Cond) ∈ pb_G := pb_Gm (List.mem_of_getElem? (i := 312) rfl) rfl
theorem m_286 : (.code y_Md_writeRoot prog_4_method_7_code 6 none : Cond) ∈ pb_G := pb_Gm (List.mem_of_getElem? (i := 313) rfl) rfl
theorem m_287 : (.methodLink "PuzzleBookModel" 40 y_Md_write : Cond) ∈ pb_G := pb_Gm (List.mem_of_getElem? (i := 314) rfl) rfl
theorem m_289 : (.instanceMethod y_Md_write : Cond) ∈ pb_G := pb_Gm (List.mem_of_getElem? (i := 316) rfl) rfl
theorem m_290 : (.code y_Md_write prog_4_method_5_code 3 none : Cond) ∈ pb_G := pb_Gm (List.mem_of_getElem? (i := 317) rfl) rfl
theorem m_291 : (.methodLink "PuzzleBookModel" 57 y_Md_writeSum : Cond) ∈ pb_G := pb_Gm (List.mem_of_getElem? (i := 318) rfl) rfl
theorem m_293 : (.instanceMethod y_Md_writeSum : Cond) ∈ pb_G := pb_Gm (List.mem_of_getElem? (i := 320) rfl) rfl
theorem m_294 : (.code y_Md_writeSum prog_4_method_6_code 4 none : Cond) ∈ pb_G := pb_Gm (List.mem_of_getElem? (i := 321) rfl) rfl
theorem m_295 : (.methodLink "PuzzleBookModel" 50 y_Md_sumOf : Cond) ∈ pb_G := pb_Gm (List.mem_of_getElem? (i := 322) rfl) rfl
theorem m_297 : (.instanceMethod y_Md_sumOf : Cond) ∈ pb_G := pb_Gm (List.mem_of_getElem? (i := 324) rfl) rfl
theorem m_298 : (.code y_Md_sumOf prog_4_method_3_code 4 (some .int) : Cond) ∈ pb_G := pb_Gm (List.mem_of_getElem? (i := 325) rfl) rfl
theorem m_299 : (.constant "PuzzleBookModel" 49 (-2048144789 : Int32) : Cond) ∈ pb_G := pb_Gm (List.mem_of_getElem? (i := 326) rfl) rfl
theorem m_300 : (.fieldLink "PuzzleBookModel" 25 "PuzzleBookModel" "blocks" "I" : Cond) ∈ pb_G := pb_Gm (List.mem_of_getElem? (i := 327) rfl) rfl
theorem m_301 : (.fieldLink "PuzzleBookModel" 7 "PuzzleBookModel" "store" "[I" : Cond) ∈ pb_G := pb_Gm (List.mem_of_getElem? (i := 328) rfl) rfl
theorem m_302 : (.fieldLink "PuzzleBookModel" 32 "PuzzleBookModel" "open" "Z" : Cond) ∈ pb_G := pb_Gm (List.mem_of_getElem? (i := 329) rfl) rfl
theorem m_303 : (.fieldLink "PuzzleBookModel" 29 "PuzzleBookModel" "turn" "I" : Cond) ∈ pb_G := pb_Gm (List.mem_of_getElem? (i := 330) rfl) rfl
theorem m_304 : (.fieldLink "PuzzleBookModel" 54 "PuzzleBookModel" "entries" "I" : Cond) ∈ pb_G := pb_Gm (List.mem_of_getElem? (i := 331) rfl) rfl
theorem m_305 : (.fieldLink "PuzzleBookModel" 46 "PuzzleBookModel" "thrown" "I" : Cond) ∈ pb_G := pb_Gm (List.mem_of_getElem? (i := 332) rfl) rfl
theorem m_306 : (.fieldLink "PuzzleBookModel" 13 "PuzzleBookModel" "block" "[I" : Cond) ∈ pb_G := pb_Gm (List.mem_of_getElem? (i := 333) rfl) rfl
theorem m_307 : (.fieldLink "PuzzleBookModel" 16 "PuzzleBookModel" "fed" "[I" : Cond) ∈ pb_G := pb_Gm (List.mem_of_getElem? (i := 334) rfl) rfl
theorem m_308 : (.fieldLink "PuzzleBookModel" 61 "PuzzleBookModel" "fedLong" "I" : Cond) ∈ pb_G := pb_Gm (List.mem_of_getElem? (i := 335) rfl) rfl
theorem m_309 : (.fieldLink "PuzzleBookModel" 19 "PuzzleBookModel" "where" "[I" : Cond) ∈ pb_G := pb_Gm (List.mem_of_getElem? (i := 336) rfl) rfl
theorem m_310 : (.fieldLink "PuzzleBookModel" 22 "PuzzleBookModel" "before" "[I" : Cond) ∈ pb_G := pb_Gm (List.mem_of_getElem? (i := 337) rfl) rfl
theorem m_311 : (.fieldLink "PuzzleBookModel" 43 "PuzzleBookModel" "written" "I" : Cond) ∈ pb_G := pb_Gm (List.mem_of_getElem? (i := 338) rfl) rfl
theorem m_337 : (.methodLink "PuzzleBookLaw" 71 y_Md_thrown : Cond) ∈ pb_G := pb_Gm (List.mem_of_getElem? (i := 364) rfl) rfl
theorem m_338 : (.instanceMethod y_Md_thrown : Cond) ∈ pb_G := pb_Gm (List.mem_of_getElem? (i := 365) rfl) rfl
theorem m_339 : (.selects "PuzzleBookModel" y_Md_thrown y_Md_thrown : Cond) ∈ pb_G := pb_Gm (List.mem_of_getElem? (i := 366) rfl) rfl
theorem m_340 : (.code y_Md_thrown prog_4_method_2_code 1 (some .int) : Cond) ∈ pb_G := pb_Gm (List.mem_of_getElem? (i := 367) rfl) rfl
theorem m_341 : (.methodLink "PuzzleBookLaw" 31 y_Md_feed : Cond) ∈ pb_G := pb_Gm (List.mem_of_getElem? (i := 368) rfl) rfl
theorem m_342 : (.instanceMethod y_Md_feed : Cond) ∈ pb_G := pb_Gm (List.mem_of_getElem? (i := 369) rfl) rfl
theorem m_343 : (.selects "PuzzleBookModel" y_Md_feed y_Md_feed : Cond) ∈ pb_G := pb_Gm (List.mem_of_getElem? (i := 370) rfl) rfl
theorem m_344 : (.code y_Md_feed prog_4_method_15_code 2 (some .boolean) : Cond) ∈ pb_G := pb_Gm (List.mem_of_getElem? (i := 371) rfl) rfl
theorem m_345 : (.methodLink "PuzzleBookLaw" 36 y_Md_put : Cond) ∈ pb_G := pb_Gm (List.mem_of_getElem? (i := 372) rfl) rfl
theorem m_346 : (.instanceMethod y_Md_put : Cond) ∈ pb_G := pb_Gm (List.mem_of_getElem? (i := 373) rfl) rfl
theorem m_347 : (.selects "PuzzleBookModel" y_Md_put y_Md_put : Cond) ∈ pb_G := pb_Gm (List.mem_of_getElem? (i := 374) rfl) rfl
theorem m_348 : (.code y_Md_put prog_4_method_16_code 3 (some .int) : Cond) ∈ pb_G := pb_Gm (List.mem_of_getElem? (i := 375) rfl) rfl
theorem m_349 : (.constant "PuzzleBookModel" 71 (65535 : Int32) : Cond) ∈ pb_G := pb_Gm (List.mem_of_getElem? (i := 376) rfl) rfl
theorem m_350 : (.methodLink "PuzzleBookModel" 72 y_Md_hasFed : Cond) ∈ pb_G := pb_Gm (List.mem_of_getElem? (i := 377) rfl) rfl
theorem m_352 : (.instanceMethod y_Md_hasFed : Cond) ∈ pb_G := pb_Gm (List.mem_of_getElem? (i := 379) rfl) rfl
theorem m_353 : (.code y_Md_hasFed prog_4_method_14_code 3 (some .boolean) : Cond) ∈ pb_G := pb_Gm (List.mem_of_getElem? (i := 380) rfl) rfl
theorem m_354 : (.methodLink "PuzzleBookModel" 68 y_Md_longOf : Cond) ∈ pb_G := pb_Gm (List.mem_of_getElem? (i := 381) rfl) rfl
theorem m_356 : (.instanceMethod y_Md_longOf : Cond) ∈ pb_G := pb_Gm (List.mem_of_getElem? (i := 383) rfl) rfl
theorem m_357 : (.code y_Md_longOf prog_4_method_13_code 2 (some .int) : Cond) ∈ pb_G := pb_Gm (List.mem_of_getElem? (i := 384) rfl) rfl
theorem m_358 : (.methodLink "PuzzleBookModel" 75 y_Md_leastFree : Cond) ∈ pb_G := pb_Gm (List.mem_of_getElem? (i := 385) rfl) rfl
theorem m_360 : (.instanceMethod y_Md_leastFree : Cond) ∈ pb_G := pb_Gm (List.mem_of_getElem? (i := 387) rfl) rfl
theorem m_361 : (.code y_Md_leastFree prog_4_method_11_code 2 (some .int) : Cond) ∈ pb_G := pb_Gm (List.mem_of_getElem? (i := 388) rfl) rfl
theorem m_362 : (.methodLink "PuzzleBookModel" 64 y_Md_isUsed : Cond) ∈ pb_G := pb_Gm (List.mem_of_getElem? (i := 389) rfl) rfl
theorem m_364 : (.instanceMethod y_Md_isUsed : Cond) ∈ pb_G := pb_Gm (List.mem_of_getElem? (i := 391) rfl) rfl
theorem m_365 : (.code y_Md_isUsed prog_4_method_10_code 3 (some .boolean) : Cond) ∈ pb_G := pb_Gm (List.mem_of_getElem? (i := 392) rfl) rfl
theorem m_366 : (.methodLink "PuzzleBookModel" 79 y_Md_writeEntry : Cond) ∈ pb_G := pb_Gm (List.mem_of_getElem? (i := 393) rfl) rfl
theorem m_368 : (.instanceMethod y_Md_writeEntry : Cond) ∈ pb_G := pb_Gm (List.mem_of_getElem? (i := 395) rfl) rfl
theorem m_369 : (.code y_Md_writeEntry prog_4_method_8_code 4 none : Cond) ∈ pb_G := pb_Gm (List.mem_of_getElem? (i := 396) rfl) rfl
theorem m_370 : (.methodLink "PuzzleBookModel" 82 y_Md_turnTo : Cond) ∈ pb_G := pb_Gm (List.mem_of_getElem? (i := 397) rfl) rfl
theorem m_372 : (.instanceMethod y_Md_turnTo : Cond) ∈ pb_G := pb_Gm (List.mem_of_getElem? (i := 399) rfl) rfl
theorem m_373 : (.code y_Md_turnTo prog_4_method_9_code 2 none : Cond) ∈ pb_G := pb_Gm (List.mem_of_getElem? (i := 400) rfl) rfl
theorem m_374 : (.methodLink "PuzzleBookLaw" 48 y_Md_drop : Cond) ∈ pb_G := pb_Gm (List.mem_of_getElem? (i := 401) rfl) rfl
theorem m_375 : (.instanceMethod y_Md_drop : Cond) ∈ pb_G := pb_Gm (List.mem_of_getElem? (i := 402) rfl) rfl
theorem m_376 : (.selects "PuzzleBookModel" y_Md_drop y_Md_drop : Cond) ∈ pb_G := pb_Gm (List.mem_of_getElem? (i := 403) rfl) rfl
theorem m_377 : (.code y_Md_drop prog_4_method_17_code 3 (some .boolean) : Cond) ∈ pb_G := pb_Gm (List.mem_of_getElem? (i := 404) rfl) rfl
theorem m_378 : (.methodLink "PuzzleBookLaw" 40 y_Md_find : Cond) ∈ pb_G := pb_Gm (List.mem_of_getElem? (i := 405) rfl) rfl
theorem m_379 : (.instanceMethod y_Md_find : Cond) ∈ pb_G := pb_Gm (List.mem_of_getElem? (i := 406) rfl) rfl
theorem m_380 : (.selects "PuzzleBookModel" y_Md_find y_Md_find : Cond) ∈ pb_G := pb_Gm (List.mem_of_getElem? (i := 407) rfl) rfl
theorem m_381 : (.code y_Md_find prog_4_method_18_code 4 (some .int) : Cond) ∈ pb_G := pb_Gm (List.mem_of_getElem? (i := 408) rfl) rfl
theorem m_382 : (.methodLink "PuzzleBookModel" 85 y_Md_nameOf : Cond) ∈ pb_G := pb_Gm (List.mem_of_getElem? (i := 409) rfl) rfl
theorem m_384 : (.instanceMethod y_Md_nameOf : Cond) ∈ pb_G := pb_Gm (List.mem_of_getElem? (i := 411) rfl) rfl
theorem m_385 : (.code y_Md_nameOf prog_4_method_12_code 2 (some .int) : Cond) ∈ pb_G := pb_Gm (List.mem_of_getElem? (i := 412) rfl) rfl
theorem m_386 : (.methodLink "PuzzleBookLaw" 44 y_Md_entry : Cond) ∈ pb_G := pb_Gm (List.mem_of_getElem? (i := 413) rfl) rfl
theorem m_387 : (.instanceMethod y_Md_entry : Cond) ∈ pb_G := pb_Gm (List.mem_of_getElem? (i := 414) rfl) rfl
theorem m_388 : (.selects "PuzzleBookModel" y_Md_entry y_Md_entry : Cond) ∈ pb_G := pb_Gm (List.mem_of_getElem? (i := 415) rfl) rfl
theorem m_389 : (.code y_Md_entry prog_4_method_19_code 3 (some .int) : Cond) ∈ pb_G := pb_Gm (List.mem_of_getElem? (i := 416) rfl) rfl
theorem m_390 : (.methodLink "PuzzleBookLaw" 52 y_Md_crash : Cond) ∈ pb_G := pb_Gm (List.mem_of_getElem? (i := 417) rfl) rfl
theorem m_391 : (.instanceMethod y_Md_crash : Cond) ∈ pb_G := pb_Gm (List.mem_of_getElem? (i := 418) rfl) rfl
theorem m_392 : (.selects "PuzzleBookModel" y_Md_crash y_Md_crash : Cond) ∈ pb_G := pb_Gm (List.mem_of_getElem? (i := 419) rfl) rfl
theorem m_393 : (.code y_Md_crash prog_4_method_20_code 3 (some .boolean) : Cond) ∈ pb_G := pb_Gm (List.mem_of_getElem? (i := 420) rfl) rfl
theorem m_394 : (.methodLink "PuzzleBookLaw" 57 y_Md_reopen : Cond) ∈ pb_G := pb_Gm (List.mem_of_getElem? (i := 421) rfl) rfl
theorem m_395 : (.instanceMethod y_Md_reopen : Cond) ∈ pb_G := pb_Gm (List.mem_of_getElem? (i := 422) rfl) rfl
theorem m_396 : (.selects "PuzzleBookModel" y_Md_reopen y_Md_reopen : Cond) ∈ pb_G := pb_Gm (List.mem_of_getElem? (i := 423) rfl) rfl
theorem m_397 : (.code y_Md_reopen prog_4_method_23_code 6 (some .int) : Cond) ∈ pb_G := pb_Gm (List.mem_of_getElem? (i := 424) rfl) rfl
theorem m_398 : (.methodLink "PuzzleBookModel" 91 y_Md_rootIsRight : Cond) ∈ pb_G := pb_Gm (List.mem_of_getElem? (i := 425) rfl) rfl
theorem m_400 : (.instanceMethod y_Md_rootIsRight : Cond) ∈ pb_G := pb_Gm (List.mem_of_getElem? (i := 427) rfl) rfl
theorem m_401 : (.code y_Md_rootIsRight prog_4_method_21_code 6 (some .boolean) : Cond) ∈ pb_G := pb_Gm (List.mem_of_getElem? (i := 428) rfl) rfl
theorem m_402 : (.methodLink "PuzzleBookModel" 88 y_Md_isRight : Cond) ∈ pb_G := pb_Gm (List.mem_of_getElem? (i := 429) rfl) rfl
theorem m_404 : (.instanceMethod y_Md_isRight : Cond) ∈ pb_G := pb_Gm (List.mem_of_getElem? (i := 431) rfl) rfl
theorem m_405 : (.code y_Md_isRight prog_4_method_4_code 4 (some .boolean) : Cond) ∈ pb_G := pb_Gm (List.mem_of_getElem? (i := 432) rfl) rfl
theorem m_406 : (.methodLink "PuzzleBookModel" 94 y_Md_entryIsRight : Cond) ∈ pb_G := pb_Gm (List.mem_of_getElem? (i := 433) rfl) rfl
theorem m_408 : (.instanceMethod y_Md_entryIsRight : Cond) ∈ pb_G := pb_Gm (List.mem_of_getElem? (i := 435) rfl) rfl
theorem m_409 : (.code y_Md_entryIsRight prog_4_method_22_code 3 (some .boolean) : Cond) ∈ pb_G := pb_Gm (List.mem_of_getElem? (i := 436) rfl) rfl
theorem m_410 : (.methodLink "PuzzleBookLaw" 62 y_Md_poke : Cond) ∈ pb_G := pb_Gm (List.mem_of_getElem? (i := 437) rfl) rfl
theorem m_411 : (.instanceMethod y_Md_poke : Cond) ∈ pb_G := pb_Gm (List.mem_of_getElem? (i := 438) rfl) rfl
theorem m_412 : (.selects "PuzzleBookModel" y_Md_poke y_Md_poke : Cond) ∈ pb_G := pb_Gm (List.mem_of_getElem? (i := 439) rfl) rfl
theorem m_413 : (.code y_Md_poke prog_4_method_25_code 4 (some .boolean) : Cond) ∈ pb_G := pb_Gm (List.mem_of_getElem? (i := 440) rfl) rfl
theorem m_414 : (.methodLink "PuzzleBookModel" 97 y_Md_isByte : Cond) ∈ pb_G := pb_Gm (List.mem_of_getElem? (i := 441) rfl) rfl
theorem m_416 : (.instanceMethod y_Md_isByte : Cond) ∈ pb_G := pb_Gm (List.mem_of_getElem? (i := 443) rfl) rfl
theorem m_417 : (.code y_Md_isByte prog_4_method_24_code 3 (some .boolean) : Cond) ∈ pb_G := pb_Gm (List.mem_of_getElem? (i := 444) rfl) rfl
theorem m_418 : (.methodLink "PuzzleBookLaw" 66 y_Md_badAt : Cond) ∈ pb_G := pb_Gm (List.mem_of_getElem? (i := 445) rfl) rfl
theorem m_419 : (.instanceMethod y_Md_badAt : Cond) ∈ pb_G := pb_Gm (List.mem_of_getElem? (i := 446) rfl) rfl
theorem m_420 : (.selects "PuzzleBookModel" y_Md_badAt y_Md_badAt : Cond) ∈ pb_G := pb_Gm (List.mem_of_getElem? (i := 447) rfl) rfl
theorem m_421 : (.code y_Md_badAt prog_4_method_26_code 2 (some .int) : Cond) ∈ pb_G := pb_Gm (List.mem_of_getElem? (i := 448) rfl) rfl
theorem m_422 : (.methodLink "PuzzleBookLaw" 70 y_Md_byteAt : Cond) ∈ pb_G := pb_Gm (List.mem_of_getElem? (i := 449) rfl) rfl
theorem m_423 : (.instanceMethod y_Md_byteAt : Cond) ∈ pb_G := pb_Gm (List.mem_of_getElem? (i := 450) rfl) rfl
theorem m_424 : (.selects "PuzzleBookModel" y_Md_byteAt y_Md_byteAt : Cond) ∈ pb_G := pb_Gm (List.mem_of_getElem? (i := 451) rfl) rfl
theorem m_425 : (.code y_Md_byteAt prog_4_method_27_code 3 (some .int) : Cond) ∈ pb_G := pb_Gm (List.mem_of_getElem? (i := 452) rfl) rfl
theorem m_426 : (.methodLink "PuzzleBookLaw" 77 y_Md_free : Cond) ∈ pb_G := pb_Gm (List.mem_of_getElem? (i := 453) rfl) rfl
theorem m_427 : (.instanceMethod y_Md_free : Cond) ∈ pb_G := pb_Gm (List.mem_of_getElem? (i := 454) rfl) rfl
theorem m_428 : (.selects "PuzzleBookModel" y_Md_free y_Md_free : Cond) ∈ pb_G := pb_Gm (List.mem_of_getElem? (i := 455) rfl) rfl
theorem m_429 : (.code y_Md_free prog_4_method_28_code 1 (some .int) : Cond) ∈ pb_G := pb_Gm (List.mem_of_getElem? (i := 456) rfl) rfl
theorem m_430 : (.methodLink "PuzzleBookLaw" 81 y_Md_root : Cond) ∈ pb_G := pb_Gm (List.mem_of_getElem? (i := 457) rfl) rfl
theorem m_431 : (.instanceMethod y_Md_root : Cond) ∈ pb_G := pb_Gm (List.mem_of_getElem? (i := 458) rfl) rfl
theorem m_432 : (.selects "PuzzleBookModel" y_Md_root y_Md_root : Cond) ∈ pb_G := pb_Gm (List.mem_of_getElem? (i := 459) rfl) rfl
theorem m_433 : (.code y_Md_root prog_4_method_29_code 1 (some .int) : Cond) ∈ pb_G := pb_Gm (List.mem_of_getElem? (i := 460) rfl) rfl
theorem m_434 : (.arrayClass .long : Cond) ∈ pb_G := pb_Gm (List.mem_of_getElem? (i := 461) rfl) rfl
theorem s_0 : (.selects "PuzzleBook" y_Bk_fillRoot y_Bk_fillRoot : Cond) ∈ pb_G := pb_Gm (List.mem_of_getElem? (i := 0) rfl) rfl
theorem s_1 : (.selects "PuzzleBook" y_Bk_clear y_Bk_clear : Cond) ∈ pb_G := pb_Gm (List.mem_of_getElem? (i := 1) rfl) rfl
theorem s_2 : (.selects "PuzzleBook" y_Bk_seal y_Bk_seal : Cond) ∈ pb_G := pb_Gm (List.mem_of_getElem? (i := 2) rfl) rfl
theorem s_3 : (.selects "PuzzleBook" y_Bk_isRight y_Bk_isRight : Cond) ∈ pb_G := pb_Gm (List.mem_of_getElem? (i := 3) rfl) rfl
theorem s_4 : (.selects "PuzzleBook" y_Bk_reads y_Bk_reads : Cond) ∈ pb_G := pb_Gm (List.mem_of_getElem? (i := 4) rfl) rfl
theorem s_5 : (.selects "PuzzleBook" y_Bk_isUsed y_Bk_isUsed : Cond) ∈ pb_G := pb_Gm (List.mem_of_getElem? (i := 5) rfl) rfl
theorem s_6 : (.selects "PuzzleBook" y_Bk_sizeOf y_Bk_sizeOf : Cond) ∈ pb_G := pb_Gm (List.mem_of_getElem? (i := 6) rfl) rfl
theorem s_7 : (.selects "PuzzleBook" y_Bk_isFed y_Bk_isFed : Cond) ∈ pb_G := pb_Gm (List.mem_of_getElem? (i := 7) rfl) rfl
theorem s_8 : (.selects "PuzzleBook" y_Bk_freeBlock y_Bk_freeBlock : Cond) ∈ pb_G := pb_Gm (List.mem_of_getElem? (i := 8) rfl) rfl
theorem s_9 : (.selects "PuzzleBook" y_Bk_turnTo y_Bk_turnTo : Cond) ∈ pb_G := pb_Gm (List.mem_of_getElem? (i := 9) rfl) rfl
theorem s_10 : (.selects "PuzzleBook" y_Bk_nameOf y_Bk_nameOf : Cond) ∈ pb_G := pb_Gm (List.mem_of_getElem? (i := 10) rfl) rfl
theorem s_12 : (.selects "PuzzleBookModel" y_Md_writeRoot y_Md_writeRoot : Cond) ∈ pb_G := pb_Gm (List.mem_of_getElem? (i := 12) rfl) rfl
theorem s_13 : (.selects "PuzzleBookModel" y_Md_write y_Md_write : Cond) ∈ pb_G := pb_Gm (List.mem_of_getElem? (i := 13) rfl) rfl
theorem s_14 : (.selects "PuzzleBookModel" y_Md_writeSum y_Md_writeSum : Cond) ∈ pb_G := pb_Gm (List.mem_of_getElem? (i := 14) rfl) rfl
theorem s_15 : (.selects "PuzzleBookModel" y_Md_sumOf y_Md_sumOf : Cond) ∈ pb_G := pb_Gm (List.mem_of_getElem? (i := 15) rfl) rfl
theorem s_16 : (.selects "PuzzleBookModel" y_Md_hasFed y_Md_hasFed : Cond) ∈ pb_G := pb_Gm (List.mem_of_getElem? (i := 16) rfl) rfl
theorem s_17 : (.selects "PuzzleBookModel" y_Md_longOf y_Md_longOf : Cond) ∈ pb_G := pb_Gm (List.mem_of_getElem? (i := 17) rfl) rfl
theorem s_18 : (.selects "PuzzleBookModel" y_Md_leastFree y_Md_leastFree : Cond) ∈ pb_G := pb_Gm (List.mem_of_getElem? (i := 18) rfl) rfl
theorem s_19 : (.selects "PuzzleBookModel" y_Md_isUsed y_Md_isUsed : Cond) ∈ pb_G := pb_Gm (List.mem_of_getElem? (i := 19) rfl) rfl
theorem s_20 : (.selects "PuzzleBookModel" y_Md_writeEntry y_Md_writeEntry : Cond) ∈ pb_G := pb_Gm (List.mem_of_getElem? (i := 20) rfl) rfl
theorem s_21 : (.selects "PuzzleBookModel" y_Md_turnTo y_Md_turnTo : Cond) ∈ pb_G := pb_Gm (List.mem_of_getElem? (i := 21) rfl) rfl
theorem s_22 : (.selects "PuzzleBookModel" y_Md_nameOf y_Md_nameOf : Cond) ∈ pb_G := pb_Gm (List.mem_of_getElem? (i := 22) rfl) rfl
theorem s_23 : (.selects "PuzzleBookModel" y_Md_rootIsRight y_Md_rootIsRight : Cond) ∈ pb_G := pb_Gm (List.mem_of_getElem? (i := 23) rfl) rfl
theorem s_24 : (.selects "PuzzleBookModel" y_Md_isRight y_Md_isRight : Cond) ∈ pb_G := pb_Gm (List.mem_of_getElem? (i := 24) rfl) rfl
theorem s_25 : (.selects "PuzzleBookModel" y_Md_entryIsRight y_Md_entryIsRight : Cond) ∈ pb_G := pb_Gm (List.mem_of_getElem? (i := 25) rfl) rfl
theorem s_26 : (.selects "PuzzleBookModel" y_Md_isByte y_Md_isByte : Cond) ∈ pb_G := pb_Gm (List.mem_of_getElem? (i := 26) rfl) rfl
end
section
-- decode rows (by gen/names.py)
theorem d_Bk_init_0 : decode b_Bk_init 0 = .ok (.aload_n 0, 1) := by decide +kernel
theorem d_Bk_init_1 : decode b_Bk_init 1 = .ok (.invokespecial 1, 3) := by decide +kernel
theorem d_Bk_init_4 : decode b_Bk_init 4 = .ok (.aload_n 0, 1) := by decide +kernel
theorem d_Bk_init_5 : decode b_Bk_init 5 = .ok (.bipush 48, 2) := by decide +kernel
theorem d_Bk_init_7 : decode b_Bk_init 7 = .ok (.newarray .byte, 2) := by decide +kernel
theorem d_Bk_init_9 : decode b_Bk_init 9 = .ok (.putfield 9, 3) := by decide +kernel
theorem d_Bk_init_12 : decode b_Bk_init 12 = .ok (.aload_n 0, 1) := by decide +kernel
theorem d_Bk_init_13 : decode b_Bk_init 13 = .ok (.bipush 64, 2) := by decide +kernel
theorem d_Bk_init_15 : decode b_Bk_init 15 = .ok (.newarray .byte, 2) := by decide +kernel
theorem d_Bk_init_17 : decode b_Bk_init 17 = .ok (.putfield 13, 3) := by decide +kernel
theorem d_Bk_init_20 : decode b_Bk_init 20 = .ok (.aload_n 0, 1) := by decide +kernel
theorem d_Bk_init_21 : decode b_Bk_init 21 = .ok (.bipush 40, 2) := by decide +kernel
theorem d_Bk_init_23 : decode b_Bk_init 23 = .ok (.newarray .int, 2) := by decide +kernel
theorem d_Bk_init_25 : decode b_Bk_init 25 = .ok (.putfield 16, 3) := by decide +kernel
theorem d_Bk_init_28 : decode b_Bk_init 28 = .ok (.aload_n 0, 1) := by decide +kernel
theorem d_Bk_init_29 : decode b_Bk_init 29 = .ok (.iconst 4, 1) := by decide +kernel
theorem d_Bk_init_30 : decode b_Bk_init 30 = .ok (.bipush 64, 2) := by decide +kernel
theorem d_Bk_init_32 : decode b_Bk_init 32 = .ok (.iload_n 1, 1) := by decide +kernel
theorem d_Bk_init_33 : decode b_Bk_init 33 = .ok (.invokestatic 20, 3) := by decide +kernel
theorem d_Bk_init_36 : decode b_Bk_init 36 = .ok (.invokestatic 26, 3) := by decide +kernel
theorem d_Bk_init_39 : decode b_Bk_init 39 = .ok (.bipush 64, 2) := by decide +kernel
theorem d_Bk_init_41 : decode b_Bk_init 41 = .ok (.multianewarray 29 2, 4) := by decide +kernel
theorem d_Bk_init_45 : decode b_Bk_init 45 = .ok (.putfield 31, 3) := by decide +kernel
theorem d_Bk_init_48 : decode b_Bk_init 48 = .ok (.aload_n 0, 1) := by decide +kernel
theorem d_Bk_init_49 : decode b_Bk_init 49 = .ok (.new 34, 3) := by decide +kernel
theorem d_Bk_init_52 : decode b_Bk_init 52 = .ok (.dup, 1) := by decide +kernel
theorem d_Bk_init_53 : decode b_Bk_init 53 = .ok (.aload_n 0, 1) := by decide +kernel
theorem d_Bk_init_54 : decode b_Bk_init 54 = .ok (.getfield 31, 3) := by decide +kernel
theorem d_Bk_init_57 : decode b_Bk_init 57 = .ok (.invokespecial 36, 3) := by decide +kernel
theorem d_Bk_init_60 : decode b_Bk_init 60 = .ok (.putfield 39, 3) := by decide +kernel
theorem d_Bk_init_63 : decode b_Bk_init 63 = .ok (.aload_n 0, 1) := by decide +kernel
theorem d_Bk_init_64 : decode b_Bk_init 64 = .ok (.iconst (-1), 1) := by decide +kernel
theorem d_Bk_init_65 : decode b_Bk_init 65 = .ok (.invokevirtual 43, 3) := by decide +kernel
theorem d_Bk_init_68 : decode b_Bk_init 68 = .ok (.iconst 0, 1) := by decide +kernel
theorem d_Bk_init_69 : decode b_Bk_init 69 = .ok (.istore_n 2, 1) := by decide +kernel
theorem d_Bk_init_70 : decode b_Bk_init 70 = .ok (.iload_n 2, 1) := by decide +kernel
theorem d_Bk_init_71 : decode b_Bk_init 71 = .ok (.bipush 64, 2) := by decide +kernel
theorem d_Bk_init_73 : decode b_Bk_init 73 = .ok (.if_icmp .ge 23, 3) := by decide +kernel
theorem d_Bk_init_76 : decode b_Bk_init 76 = .ok (.aload_n 0, 1) := by decide +kernel
theorem d_Bk_init_77 : decode b_Bk_init 77 = .ok (.getfield 31, 3) := by decide +kernel
theorem d_Bk_init_80 : decode b_Bk_init 80 = .ok (.iconst 1, 1) := by decide +kernel
theorem d_Bk_init_81 : decode b_Bk_init 81 = .ok (.aaload, 1) := by decide +kernel
theorem d_Bk_init_82 : decode b_Bk_init 82 = .ok (.iload_n 2, 1) := by decide +kernel
theorem d_Bk_init_83 : decode b_Bk_init 83 = .ok (.aload_n 0, 1) := by decide +kernel
theorem d_Bk_init_84 : decode b_Bk_init 84 = .ok (.getfield 13, 3) := by decide +kernel
theorem d_Bk_init_87 : decode b_Bk_init 87 = .ok (.iload_n 2, 1) := by decide +kernel
theorem d_Bk_init_88 : decode b_Bk_init 88 = .ok (.baload, 1) := by decide +kernel
theorem d_Bk_init_89 : decode b_Bk_init 89 = .ok (.bastore, 1) := by decide +kernel
theorem d_Bk_init_90 : decode b_Bk_init 90 = .ok (.iinc 2 1, 3) := by decide +kernel
theorem d_Bk_init_93 : decode b_Bk_init 93 = .ok (.goto (-23), 3) := by decide +kernel
theorem d_Bk_init_96 : decode b_Bk_init 96 = .ok (.aload_n 0, 1) := by decide +kernel
theorem d_Bk_init_97 : decode b_Bk_init 97 = .ok (.getfield 31, 3) := by decide +kernel
theorem d_Bk_init_100 : decode b_Bk_init 100 = .ok (.iconst 0, 1) := by decide +kernel
theorem d_Bk_init_101 : decode b_Bk_init 101 = .ok (.aaload, 1) := by decide +kernel
theorem d_Bk_init_102 : decode b_Bk_init 102 = .ok (.iconst 0, 1) := by decide +kernel
theorem d_Bk_init_103 : decode b_Bk_init 103 = .ok (.iconst 1, 1) := by decide +kernel
theorem d_Bk_init_104 : decode b_Bk_init 104 = .ok (.bastore, 1) := by decide +kernel
theorem d_Bk_init_105 : decode b_Bk_init 105 = .ok (.aload_n 0, 1) := by decide +kernel
theorem d_Bk_init_106 : decode b_Bk_init 106 = .ok (.invokevirtual 47, 3) := by decide +kernel
theorem d_Bk_init_109 : decode b_Bk_init 109 = .ok (.pop, 1) := by decide +kernel
theorem d_Bk_init_110 : decode b_Bk_init 110 = .ok (.return_, 1) := by decide +kernel
theorem d_Mt_min_0 : decode b_Mt_min 0 = .ok (.iload_n 0, 1) := by decide +kernel
theorem d_Mt_min_1 : decode b_Mt_min 1 = .ok (.iload_n 1, 1) := by decide +kernel
theorem d_Mt_min_2 : decode b_Mt_min 2 = .ok (.if_icmp .gt 7, 3) := by decide +kernel
theorem d_Mt_min_5 : decode b_Mt_min 5 = .ok (.iload_n 0, 1) := by decide +kernel
theorem d_Mt_min_6 : decode b_Mt_min 6 = .ok (.goto 4, 3) := by decide +kernel
theorem d_Mt_min_9 : decode b_Mt_min 9 = .ok (.iload_n 1, 1) := by decide +kernel
theorem d_Mt_min_10 : decode b_Mt_min 10 = .ok (.ireturn, 1) := by decide +kernel
theorem d_Mt_max_0 : decode b_Mt_max 0 = .ok (.iload_n 0, 1) := by decide +kernel
theorem d_Mt_max_1 : decode b_Mt_max 1 = .ok (.iload_n 1, 1) := by decide +kernel
theorem d_Mt_max_2 : decode b_Mt_max 2 = .ok (.if_icmp .lt 7, 3) := by decide +kernel
theorem d_Mt_max_5 : decode b_Mt_max 5 = .ok (.iload_n 0, 1) := by decide +kernel
theorem d_Mt_max_6 : decode b_Mt_max 6 = .ok (.goto 4, 3) := by decide +kernel
theorem d_Mt_max_9 : decode b_Mt_max 9 = .ok (.iload_n 1, 1) := by decide +kernel
theorem d_Mt_max_10 : decode b_Mt_max 10 = .ok (.ireturn, 1) := by decide +kernel
theorem d_Pn_init_0 : decode b_Pn_init 0 = .ok (.aload_n 0, 1) := by decide +kernel
theorem d_Pn_init_1 : decode b_Pn_init 1 = .ok (.invokespecial 3, 3) := by decide +kernel
theorem d_Pn_init_4 : decode b_Pn_init 4 = .ok (.aload_n 0, 1) := by decide +kernel
theorem d_Pn_init_5 : decode b_Pn_init 5 = .ok (.sipush 129, 3) := by decide +kernel
theorem d_Pn_init_8 : decode b_Pn_init 8 = .ok (.newarray .int, 2) := by decide +kernel
theorem d_Pn_init_10 : decode b_Pn_init 10 = .ok (.putfield 9, 3) := by decide +kernel
theorem d_Pn_init_13 : decode b_Pn_init 13 = .ok (.aload_n 0, 1) := by decide +kernel
theorem d_Pn_init_14 : decode b_Pn_init 14 = .ok (.sipush 129, 3) := by decide +kernel
theorem d_Pn_init_17 : decode b_Pn_init 17 = .ok (.newarray .int, 2) := by decide +kernel
theorem d_Pn_init_19 : decode b_Pn_init 19 = .ok (.putfield 15, 3) := by decide +kernel
theorem d_Pn_init_22 : decode b_Pn_init 22 = .ok (.aload_n 0, 1) := by decide +kernel
theorem d_Pn_init_23 : decode b_Pn_init 23 = .ok (.sipush 129, 3) := by decide +kernel
theorem d_Pn_init_26 : decode b_Pn_init 26 = .ok (.newarray .byte, 2) := by decide +kernel
theorem d_Pn_init_28 : decode b_Pn_init 28 = .ok (.putfield 18, 3) := by decide +kernel
theorem d_Pn_init_31 : decode b_Pn_init 31 = .ok (.aload_n 0, 1) := by decide +kernel
theorem d_Pn_init_32 : decode b_Pn_init 32 = .ok (.aload_n 1, 1) := by decide +kernel
theorem d_Pn_init_33 : decode b_Pn_init 33 = .ok (.putfield 22, 3) := by decide +kernel
theorem d_Pn_init_36 : decode b_Pn_init 36 = .ok (.return_, 1) := by decide +kernel
theorem d_Bk_fillRoot_0 : decode b_Bk_fillRoot 0 = .ok (.aload_n 0, 1) := by decide +kernel
theorem d_Bk_fillRoot_1 : decode b_Bk_fillRoot 1 = .ok (.invokevirtual 64, 3) := by decide +kernel
theorem d_Bk_fillRoot_4 : decode b_Bk_fillRoot 4 = .ok (.iconst 0, 1) := by decide +kernel
theorem d_Bk_fillRoot_5 : decode b_Bk_fillRoot 5 = .ok (.istore_n 2, 1) := by decide +kernel
theorem d_Bk_fillRoot_6 : decode b_Bk_fillRoot 6 = .ok (.iconst 0, 1) := by decide +kernel
theorem d_Bk_fillRoot_7 : decode b_Bk_fillRoot 7 = .ok (.istore_n 3, 1) := by decide +kernel
theorem d_Bk_fillRoot_8 : decode b_Bk_fillRoot 8 = .ok (.iload_n 3, 1) := by decide +kernel
theorem d_Bk_fillRoot_9 : decode b_Bk_fillRoot 9 = .ok (.aload_n 0, 1) := by decide +kernel
theorem d_Bk_fillRoot_10 : decode b_Bk_fillRoot 10 = .ok (.getfield 67, 3) := by decide +kernel
theorem d_Bk_fillRoot_13 : decode b_Bk_fillRoot 13 = .ok (.if_icmp .ge 33, 3) := by decide +kernel
theorem d_Bk_fillRoot_16 : decode b_Bk_fillRoot 16 = .ok (.iload_n 3, 1) := by decide +kernel
theorem d_Bk_fillRoot_17 : decode b_Bk_fillRoot 17 = .ok (.iload_n 1, 1) := by decide +kernel
theorem d_Bk_fillRoot_18 : decode b_Bk_fillRoot 18 = .ok (.if_icmp .ne 6, 3) := by decide +kernel
theorem d_Bk_fillRoot_21 : decode b_Bk_fillRoot 21 = .ok (.goto 19, 3) := by decide +kernel
theorem d_Bk_fillRoot_24 : decode b_Bk_fillRoot 24 = .ok (.iinc 2 1, 3) := by decide +kernel
theorem d_Bk_fillRoot_27 : decode b_Bk_fillRoot 27 = .ok (.aload_n 0, 1) := by decide +kernel
theorem d_Bk_fillRoot_28 : decode b_Bk_fillRoot 28 = .ok (.getfield 13, 3) := by decide +kernel
theorem d_Bk_fillRoot_31 : decode b_Bk_fillRoot 31 = .ok (.iload_n 2, 1) := by decide +kernel
theorem d_Bk_fillRoot_32 : decode b_Bk_fillRoot 32 = .ok (.aload_n 0, 1) := by decide +kernel
theorem d_Bk_fillRoot_33 : decode b_Bk_fillRoot 33 = .ok (.getfield 16, 3) := by decide +kernel
theorem d_Bk_fillRoot_36 : decode b_Bk_fillRoot 36 = .ok (.iload_n 3, 1) := by decide +kernel
theorem d_Bk_fillRoot_37 : decode b_Bk_fillRoot 37 = .ok (.iaload, 1) := by decide +kernel
theorem d_Bk_fillRoot_38 : decode b_Bk_fillRoot 38 = .ok (.i2b, 1) := by decide +kernel
theorem d_Bk_fillRoot_39 : decode b_Bk_fillRoot 39 = .ok (.bastore, 1) := by decide +kernel
theorem d_Bk_fillRoot_40 : decode b_Bk_fillRoot 40 = .ok (.iinc 3 1, 3) := by decide +kernel
theorem d_Bk_fillRoot_43 : decode b_Bk_fillRoot 43 = .ok (.goto (-35), 3) := by decide +kernel
theorem d_Bk_fillRoot_46 : decode b_Bk_fillRoot 46 = .ok (.aload_n 0, 1) := by decide +kernel
theorem d_Bk_fillRoot_47 : decode b_Bk_fillRoot 47 = .ok (.getfield 13, 3) := by decide +kernel
theorem d_Bk_fillRoot_50 : decode b_Bk_fillRoot 50 = .ok (.iconst 0, 1) := by decide +kernel
theorem d_Bk_fillRoot_51 : decode b_Bk_fillRoot 51 = .ok (.iload_n 2, 1) := by decide +kernel
theorem d_Bk_fillRoot_52 : decode b_Bk_fillRoot 52 = .ok (.i2b, 1) := by decide +kernel
theorem d_Bk_fillRoot_53 : decode b_Bk_fillRoot 53 = .ok (.bastore, 1) := by decide +kernel
theorem d_Bk_fillRoot_54 : decode b_Bk_fillRoot 54 = .ok (.aload_n 0, 1) := by decide +kernel
theorem d_Bk_fillRoot_55 : decode b_Bk_fillRoot 55 = .ok (.invokevirtual 71, 3) := by decide +kernel
theorem d_Bk_fillRoot_58 : decode b_Bk_fillRoot 58 = .ok (.return_, 1) := by decide +kernel
theorem d_Bk_clear_0 : decode b_Bk_clear 0 = .ok (.iconst 0, 1) := by decide +kernel
theorem d_Bk_clear_1 : decode b_Bk_clear 1 = .ok (.istore_n 1, 1) := by decide +kernel
theorem d_Bk_clear_2 : decode b_Bk_clear 2 = .ok (.iload_n 1, 1) := by decide +kernel
theorem d_Bk_clear_3 : decode b_Bk_clear 3 = .ok (.bipush 64, 2) := by decide +kernel
theorem d_Bk_clear_5 : decode b_Bk_clear 5 = .ok (.if_icmp .ge 16, 3) := by decide +kernel
theorem d_Bk_clear_8 : decode b_Bk_clear 8 = .ok (.aload_n 0, 1) := by decide +kernel
theorem d_Bk_clear_9 : decode b_Bk_clear 9 = .ok (.getfield 13, 3) := by decide +kernel
theorem d_Bk_clear_12 : decode b_Bk_clear 12 = .ok (.iload_n 1, 1) := by decide +kernel
theorem d_Bk_clear_13 : decode b_Bk_clear 13 = .ok (.iconst 0, 1) := by decide +kernel
theorem d_Bk_clear_14 : decode b_Bk_clear 14 = .ok (.bastore, 1) := by decide +kernel
theorem d_Bk_clear_15 : decode b_Bk_clear 15 = .ok (.iinc 1 1, 3) := by decide +kernel
theorem d_Bk_clear_18 : decode b_Bk_clear 18 = .ok (.goto (-16), 3) := by decide +kernel
theorem d_Bk_clear_21 : decode b_Bk_clear 21 = .ok (.return_, 1) := by decide +kernel
theorem d_Bk_seal_0 : decode b_Bk_seal 0 = .ok (.aload_n 0, 1) := by decide +kernel
theorem d_Bk_seal_1 : decode b_Bk_seal 1 = .ok (.getfield 13, 3) := by decide +kernel
theorem d_Bk_seal_4 : decode b_Bk_seal 4 = .ok (.invokestatic 57, 3) := by decide +kernel
theorem d_Bk_seal_7 : decode b_Bk_seal 7 = .ok (.istore_n 1, 1) := by decide +kernel
theorem d_Bk_seal_8 : decode b_Bk_seal 8 = .ok (.iconst 0, 1) := by decide +kernel
theorem d_Bk_seal_9 : decode b_Bk_seal 9 = .ok (.istore_n 2, 1) := by decide +kernel
theorem d_Bk_seal_10 : decode b_Bk_seal 10 = .ok (.iload_n 2, 1) := by decide +kernel
theorem d_Bk_seal_11 : decode b_Bk_seal 11 = .ok (.iconst 4, 1) := by decide +kernel
theorem d_Bk_seal_12 : decode b_Bk_seal 12 = .ok (.if_icmp .ge 25, 3) := by decide +kernel
theorem d_Bk_seal_15 : decode b_Bk_seal 15 = .ok (.aload_n 0, 1) := by decide +kernel
theorem d_Bk_seal_16 : decode b_Bk_seal 16 = .ok (.getfield 13, 3) := by decide +kernel
theorem d_Bk_seal_19 : decode b_Bk_seal 19 = .ok (.bipush 60, 2) := by decide +kernel
theorem d_Bk_seal_21 : decode b_Bk_seal 21 = .ok (.iload_n 2, 1) := by decide +kernel
theorem d_Bk_seal_22 : decode b_Bk_seal 22 = .ok (.iadd, 1) := by decide +kernel
theorem d_Bk_seal_23 : decode b_Bk_seal 23 = .ok (.iload_n 1, 1) := by decide +kernel
theorem d_Bk_seal_24 : decode b_Bk_seal 24 = .ok (.bipush 8, 2) := by decide +kernel
theorem d_Bk_seal_26 : decode b_Bk_seal 26 = .ok (.iload_n 2, 1) := by decide +kernel
theorem d_Bk_seal_27 : decode b_Bk_seal 27 = .ok (.imul, 1) := by decide +kernel
theorem d_Bk_seal_28 : decode b_Bk_seal 28 = .ok (.ishr, 1) := by decide +kernel
theorem d_Bk_seal_29 : decode b_Bk_seal 29 = .ok (.i2b, 1) := by decide +kernel
theorem d_Bk_seal_30 : decode b_Bk_seal 30 = .ok (.bastore, 1) := by decide +kernel
theorem d_Bk_seal_31 : decode b_Bk_seal 31 = .ok (.iinc 2 1, 3) := by decide +kernel
theorem d_Bk_seal_34 : decode b_Bk_seal 34 = .ok (.goto (-24), 3) := by decide +kernel
theorem d_Bk_seal_37 : decode b_Bk_seal 37 = .ok (.return_, 1) := by decide +kernel
theorem d_Bk_sumOf_0 : decode b_Bk_sumOf 0 = .ok (.iconst 1, 1) := by decide +kernel
theorem d_Bk_sumOf_1 : decode b_Bk_sumOf 1 = .ok (.istore_n 1, 1) := by decide +kernel
theorem d_Bk_sumOf_2 : decode b_Bk_sumOf 2 = .ok (.iconst 0, 1) := by decide +kernel
theorem d_Bk_sumOf_3 : decode b_Bk_sumOf 3 = .ok (.istore_n 2, 1) := by decide +kernel
theorem d_Bk_sumOf_4 : decode b_Bk_sumOf 4 = .ok (.iload_n 2, 1) := by decide +kernel
theorem d_Bk_sumOf_5 : decode b_Bk_sumOf 5 = .ok (.bipush 60, 2) := by decide +kernel
theorem d_Bk_sumOf_7 : decode b_Bk_sumOf 7 = .ok (.if_icmp .ge 27, 3) := by decide +kernel
theorem d_Bk_sumOf_10 : decode b_Bk_sumOf 10 = .ok (.iload_n 1, 1) := by decide +kernel
theorem d_Bk_sumOf_11 : decode b_Bk_sumOf 11 = .ok (.aload_n 0, 1) := by decide +kernel
theorem d_Bk_sumOf_12 : decode b_Bk_sumOf 12 = .ok (.iload_n 2, 1) := by decide +kernel
theorem d_Bk_sumOf_13 : decode b_Bk_sumOf 13 = .ok (.baload, 1) := by decide +kernel
theorem d_Bk_sumOf_14 : decode b_Bk_sumOf 14 = .ok (.sipush 255, 3) := by decide +kernel
theorem d_Bk_sumOf_17 : decode b_Bk_sumOf 17 = .ok (.iand, 1) := by decide +kernel
theorem d_Bk_sumOf_18 : decode b_Bk_sumOf 18 = .ok (.ixor, 1) := by decide +kernel
theorem d_Bk_sumOf_19 : decode b_Bk_sumOf 19 = .ok (.bipush 17, 2) := by decide +kernel
theorem d_Bk_sumOf_21 : decode b_Bk_sumOf 21 = .ok (.invokestatic 51, 3) := by decide +kernel
theorem d_Bk_sumOf_24 : decode b_Bk_sumOf 24 = .ok (.ldc 56, 2) := by decide +kernel
theorem d_Bk_sumOf_26 : decode b_Bk_sumOf 26 = .ok (.imul, 1) := by decide +kernel
theorem d_Bk_sumOf_27 : decode b_Bk_sumOf 27 = .ok (.istore_n 1, 1) := by decide +kernel
theorem d_Bk_sumOf_28 : decode b_Bk_sumOf 28 = .ok (.iinc 2 1, 3) := by decide +kernel
theorem d_Bk_sumOf_31 : decode b_Bk_sumOf 31 = .ok (.goto (-27), 3) := by decide +kernel
theorem d_Bk_sumOf_34 : decode b_Bk_sumOf 34 = .ok (.iload_n 1, 1) := by decide +kernel
theorem d_Bk_sumOf_35 : decode b_Bk_sumOf 35 = .ok (.ireturn, 1) := by decide +kernel
theorem d_In_rotateLeft_0 : decode b_In_rotateLeft 0 = .ok (.iload_n 0, 1) := by decide +kernel
theorem d_In_rotateLeft_1 : decode b_In_rotateLeft 1 = .ok (.iload_n 1, 1) := by decide +kernel
theorem d_In_rotateLeft_2 : decode b_In_rotateLeft 2 = .ok (.ishl, 1) := by decide +kernel
theorem d_In_rotateLeft_3 : decode b_In_rotateLeft 3 = .ok (.iload_n 0, 1) := by decide +kernel
theorem d_In_rotateLeft_4 : decode b_In_rotateLeft 4 = .ok (.iload_n 1, 1) := by decide +kernel
theorem d_In_rotateLeft_5 : decode b_In_rotateLeft 5 = .ok (.ineg, 1) := by decide +kernel
theorem d_In_rotateLeft_6 : decode b_In_rotateLeft 6 = .ok (.iushr, 1) := by decide +kernel
theorem d_In_rotateLeft_7 : decode b_In_rotateLeft 7 = .ok (.ior, 1) := by decide +kernel
theorem d_In_rotateLeft_8 : decode b_In_rotateLeft 8 = .ok (.ireturn, 1) := by decide +kernel
theorem d_Bk_reopen_0 : decode b_Bk_reopen 0 = .ok (.aload_n 0, 1) := by decide +kernel
theorem d_Bk_reopen_1 : decode b_Bk_reopen 1 = .ok (.iconst 0, 1) := by decide +kernel
theorem d_Bk_reopen_2 : decode b_Bk_reopen 2 = .ok (.putfield 96, 3) := by decide +kernel
theorem d_Bk_reopen_5 : decode b_Bk_reopen 5 = .ok (.aload_n 0, 1) := by decide +kernel
theorem d_Bk_reopen_6 : decode b_Bk_reopen 6 = .ok (.iconst 0, 1) := by decide +kernel
theorem d_Bk_reopen_7 : decode b_Bk_reopen 7 = .ok (.putfield 67, 3) := by decide +kernel
theorem d_Bk_reopen_10 : decode b_Bk_reopen 10 = .ok (.aload_n 0, 1) := by decide +kernel
theorem d_Bk_reopen_11 : decode b_Bk_reopen 11 = .ok (.getfield 39, 3) := by decide +kernel
theorem d_Bk_reopen_14 : decode b_Bk_reopen 14 = .ok (.iconst 0, 1) := by decide +kernel
theorem d_Bk_reopen_15 : decode b_Bk_reopen 15 = .ok (.putfield 107, 3) := by decide +kernel
theorem d_Bk_reopen_18 : decode b_Bk_reopen 18 = .ok (.aload_n 0, 1) := by decide +kernel
theorem d_Bk_reopen_19 : decode b_Bk_reopen 19 = .ok (.aload_n 0, 1) := by decide +kernel
theorem d_Bk_reopen_20 : decode b_Bk_reopen 20 = .ok (.getfield 31, 3) := by decide +kernel
theorem d_Bk_reopen_23 : decode b_Bk_reopen 23 = .ok (.iconst 0, 1) := by decide +kernel
theorem d_Bk_reopen_24 : decode b_Bk_reopen 24 = .ok (.aaload, 1) := by decide +kernel
theorem d_Bk_reopen_25 : decode b_Bk_reopen 25 = .ok (.iconst 0, 1) := by decide +kernel
theorem d_Bk_reopen_26 : decode b_Bk_reopen 26 = .ok (.baload, 1) := by decide +kernel
theorem d_Bk_reopen_27 : decode b_Bk_reopen 27 = .ok (.putfield 85, 3) := by decide +kernel
theorem d_Bk_reopen_30 : decode b_Bk_reopen 30 = .ok (.aload_n 0, 1) := by decide +kernel
theorem d_Bk_reopen_31 : decode b_Bk_reopen 31 = .ok (.getfield 85, 3) := by decide +kernel
theorem d_Bk_reopen_34 : decode b_Bk_reopen 34 = .ok (.iconst 1, 1) := by decide +kernel
theorem d_Bk_reopen_35 : decode b_Bk_reopen 35 = .ok (.if_icmp .eq 13, 3) := by decide +kernel
theorem d_Bk_reopen_38 : decode b_Bk_reopen 38 = .ok (.aload_n 0, 1) := by decide +kernel
theorem d_Bk_reopen_39 : decode b_Bk_reopen 39 = .ok (.getfield 85, 3) := by decide +kernel
theorem d_Bk_reopen_42 : decode b_Bk_reopen 42 = .ok (.iconst 2, 1) := by decide +kernel
theorem d_Bk_reopen_43 : decode b_Bk_reopen 43 = .ok (.if_icmp .eq 5, 3) := by decide +kernel
theorem d_Bk_reopen_46 : decode b_Bk_reopen 46 = .ok (.iconst (-1), 1) := by decide +kernel
theorem d_Bk_reopen_47 : decode b_Bk_reopen 47 = .ok (.ireturn, 1) := by decide +kernel
theorem d_Bk_reopen_48 : decode b_Bk_reopen 48 = .ok (.aload_n 0, 1) := by decide +kernel
theorem d_Bk_reopen_49 : decode b_Bk_reopen 49 = .ok (.aload_n 0, 1) := by decide +kernel
theorem d_Bk_reopen_50 : decode b_Bk_reopen 50 = .ok (.getfield 85, 3) := by decide +kernel
theorem d_Bk_reopen_53 : decode b_Bk_reopen 53 = .ok (.invokevirtual 119, 3) := by decide +kernel
theorem d_Bk_reopen_56 : decode b_Bk_reopen 56 = .ok (.ifCond .eq 19, 3) := by decide +kernel
theorem d_Bk_reopen_59 : decode b_Bk_reopen 59 = .ok (.aload_n 0, 1) := by decide +kernel
theorem d_Bk_reopen_60 : decode b_Bk_reopen 60 = .ok (.aload_n 0, 1) := by decide +kernel
theorem d_Bk_reopen_61 : decode b_Bk_reopen 61 = .ok (.getfield 31, 3) := by decide +kernel
theorem d_Bk_reopen_64 : decode b_Bk_reopen 64 = .ok (.aload_n 0, 1) := by decide +kernel
theorem d_Bk_reopen_65 : decode b_Bk_reopen 65 = .ok (.getfield 85, 3) := by decide +kernel
theorem d_Bk_reopen_68 : decode b_Bk_reopen 68 = .ok (.aaload, 1) := by decide +kernel
theorem d_Bk_reopen_69 : decode b_Bk_reopen 69 = .ok (.invokevirtual 122, 3) := by decide +kernel
theorem d_Bk_reopen_72 : decode b_Bk_reopen 72 = .ok (.ifCond .ne 10, 3) := by decide +kernel
theorem d_Bk_reopen_75 : decode b_Bk_reopen 75 = .ok (.iconst (-1), 1) := by decide +kernel
theorem d_Bk_reopen_76 : decode b_Bk_reopen 76 = .ok (.aload_n 0, 1) := by decide +kernel
theorem d_Bk_reopen_77 : decode b_Bk_reopen 77 = .ok (.getfield 85, 3) := by decide +kernel
theorem d_Bk_reopen_80 : decode b_Bk_reopen 80 = .ok (.isub, 1) := by decide +kernel
theorem d_Bk_reopen_81 : decode b_Bk_reopen 81 = .ok (.ireturn, 1) := by decide +kernel
theorem d_Bk_reopen_82 : decode b_Bk_reopen 82 = .ok (.bipush 64, 2) := by decide +kernel
theorem d_Bk_reopen_84 : decode b_Bk_reopen 84 = .ok (.istore_n 1, 1) := by decide +kernel
theorem d_Bk_reopen_85 : decode b_Bk_reopen 85 = .ok (.iconst 0, 1) := by decide +kernel
theorem d_Bk_reopen_86 : decode b_Bk_reopen 86 = .ok (.istore_n 2, 1) := by decide +kernel
theorem d_Bk_reopen_87 : decode b_Bk_reopen 87 = .ok (.iload_n 2, 1) := by decide +kernel
theorem d_Bk_reopen_88 : decode b_Bk_reopen 88 = .ok (.aload_n 0, 1) := by decide +kernel
theorem d_Bk_reopen_89 : decode b_Bk_reopen 89 = .ok (.getfield 67, 3) := by decide +kernel
theorem d_Bk_reopen_92 : decode b_Bk_reopen 92 = .ok (.if_icmp .ge 62, 3) := by decide +kernel
theorem d_Bk_reopen_95 : decode b_Bk_reopen 95 = .ok (.aload_n 0, 1) := by decide +kernel
theorem d_Bk_reopen_96 : decode b_Bk_reopen 96 = .ok (.aload_n 0, 1) := by decide +kernel
theorem d_Bk_reopen_97 : decode b_Bk_reopen 97 = .ok (.getfield 16, 3) := by decide +kernel
theorem d_Bk_reopen_100 : decode b_Bk_reopen 100 = .ok (.iload_n 2, 1) := by decide +kernel
theorem d_Bk_reopen_101 : decode b_Bk_reopen 101 = .ok (.iaload, 1) := by decide +kernel
theorem d_Bk_reopen_102 : decode b_Bk_reopen 102 = .ok (.invokevirtual 119, 3) := by decide +kernel
theorem d_Bk_reopen_105 : decode b_Bk_reopen 105 = .ok (.ifCond .eq 32, 3) := by decide +kernel
theorem d_Bk_reopen_108 : decode b_Bk_reopen 108 = .ok (.aload_n 0, 1) := by decide +kernel
theorem d_Bk_reopen_109 : decode b_Bk_reopen 109 = .ok (.aload_n 0, 1) := by decide +kernel
theorem d_Bk_reopen_110 : decode b_Bk_reopen 110 = .ok (.getfield 16, 3) := by decide +kernel
theorem d_Bk_reopen_113 : decode b_Bk_reopen 113 = .ok (.iload_n 2, 1) := by decide +kernel
theorem d_Bk_reopen_114 : decode b_Bk_reopen 114 = .ok (.iaload, 1) := by decide +kernel
theorem d_Bk_reopen_115 : decode b_Bk_reopen 115 = .ok (.invokevirtual 77, 3) := by decide +kernel
theorem d_Bk_reopen_118 : decode b_Bk_reopen 118 = .ok (.iconst 1, 1) := by decide +kernel
theorem d_Bk_reopen_119 : decode b_Bk_reopen 119 = .ok (.if_icmp .lt 18, 3) := by decide +kernel
theorem d_Bk_reopen_122 : decode b_Bk_reopen 122 = .ok (.aload_n 0, 1) := by decide +kernel
theorem d_Bk_reopen_123 : decode b_Bk_reopen 123 = .ok (.aload_n 0, 1) := by decide +kernel
theorem d_Bk_reopen_124 : decode b_Bk_reopen 124 = .ok (.getfield 16, 3) := by decide +kernel
theorem d_Bk_reopen_127 : decode b_Bk_reopen 127 = .ok (.iload_n 2, 1) := by decide +kernel
theorem d_Bk_reopen_128 : decode b_Bk_reopen 128 = .ok (.iaload, 1) := by decide +kernel
theorem d_Bk_reopen_129 : decode b_Bk_reopen 129 = .ok (.invokevirtual 77, 3) := by decide +kernel
theorem d_Bk_reopen_132 : decode b_Bk_reopen 132 = .ok (.bipush 48, 2) := by decide +kernel
theorem d_Bk_reopen_134 : decode b_Bk_reopen 134 = .ok (.if_icmp .le 14, 3) := by decide +kernel
theorem d_Bk_reopen_137 : decode b_Bk_reopen 137 = .ok (.iload_n 1, 1) := by decide +kernel
theorem d_Bk_reopen_138 : decode b_Bk_reopen 138 = .ok (.aload_n 0, 1) := by decide +kernel
theorem d_Bk_reopen_139 : decode b_Bk_reopen 139 = .ok (.getfield 16, 3) := by decide +kernel
theorem d_Bk_reopen_142 : decode b_Bk_reopen 142 = .ok (.iload_n 2, 1) := by decide +kernel
theorem d_Bk_reopen_143 : decode b_Bk_reopen 143 = .ok (.iaload, 1) := by decide +kernel
theorem d_Bk_reopen_144 : decode b_Bk_reopen 144 = .ok (.invokestatic 20, 3) := by decide +kernel
theorem d_Bk_reopen_147 : decode b_Bk_reopen 147 = .ok (.istore_n 1, 1) := by decide +kernel
theorem d_Bk_reopen_148 : decode b_Bk_reopen 148 = .ok (.iinc 2 1, 3) := by decide +kernel
theorem d_Bk_reopen_151 : decode b_Bk_reopen 151 = .ok (.goto (-64), 3) := by decide +kernel
theorem d_Bk_reopen_154 : decode b_Bk_reopen 154 = .ok (.iload_n 1, 1) := by decide +kernel
theorem d_Bk_reopen_155 : decode b_Bk_reopen 155 = .ok (.bipush 64, 2) := by decide +kernel
theorem d_Bk_reopen_157 : decode b_Bk_reopen 157 = .ok (.if_icmp .ge 7, 3) := by decide +kernel
theorem d_Bk_reopen_160 : decode b_Bk_reopen 160 = .ok (.iconst (-1), 1) := by decide +kernel
theorem d_Bk_reopen_161 : decode b_Bk_reopen 161 = .ok (.iload_n 1, 1) := by decide +kernel
theorem d_Bk_reopen_162 : decode b_Bk_reopen 162 = .ok (.isub, 1) := by decide +kernel
theorem d_Bk_reopen_163 : decode b_Bk_reopen 163 = .ok (.ireturn, 1) := by decide +kernel
theorem d_Bk_reopen_164 : decode b_Bk_reopen 164 = .ok (.aload_n 0, 1) := by decide +kernel
theorem d_Bk_reopen_165 : decode b_Bk_reopen 165 = .ok (.iconst 1, 1) := by decide +kernel
theorem d_Bk_reopen_166 : decode b_Bk_reopen 166 = .ok (.putfield 96, 3) := by decide +kernel
theorem d_Bk_reopen_169 : decode b_Bk_reopen 169 = .ok (.aload_n 0, 1) := by decide +kernel
theorem d_Bk_reopen_170 : decode b_Bk_reopen 170 = .ok (.getfield 67, 3) := by decide +kernel
theorem d_Bk_reopen_173 : decode b_Bk_reopen 173 = .ok (.ireturn, 1) := by decide +kernel
theorem d_Bk_isRight_0 : decode b_Bk_isRight 0 = .ok (.aload_n 0, 1) := by decide +kernel
theorem d_Bk_isRight_1 : decode b_Bk_isRight 1 = .ok (.getfield 31, 3) := by decide +kernel
theorem d_Bk_isRight_4 : decode b_Bk_isRight 4 = .ok (.iload_n 1, 1) := by decide +kernel
theorem d_Bk_isRight_5 : decode b_Bk_isRight 5 = .ok (.aaload, 1) := by decide +kernel
theorem d_Bk_isRight_6 : decode b_Bk_isRight 6 = .ok (.invokestatic 57, 3) := by decide +kernel
theorem d_Bk_isRight_9 : decode b_Bk_isRight 9 = .ok (.aload_n 0, 1) := by decide +kernel
theorem d_Bk_isRight_10 : decode b_Bk_isRight 10 = .ok (.getfield 31, 3) := by decide +kernel
theorem d_Bk_isRight_13 : decode b_Bk_isRight 13 = .ok (.iload_n 1, 1) := by decide +kernel
theorem d_Bk_isRight_14 : decode b_Bk_isRight 14 = .ok (.aaload, 1) := by decide +kernel
theorem d_Bk_isRight_15 : decode b_Bk_isRight 15 = .ok (.invokestatic 61, 3) := by decide +kernel
theorem d_Bk_isRight_18 : decode b_Bk_isRight 18 = .ok (.if_icmp .ne 7, 3) := by decide +kernel
theorem d_Bk_isRight_21 : decode b_Bk_isRight 21 = .ok (.iconst 1, 1) := by decide +kernel
theorem d_Bk_isRight_22 : decode b_Bk_isRight 22 = .ok (.goto 4, 3) := by decide +kernel
theorem d_Bk_isRight_25 : decode b_Bk_isRight 25 = .ok (.iconst 0, 1) := by decide +kernel
theorem d_Bk_isRight_26 : decode b_Bk_isRight 26 = .ok (.ireturn, 1) := by decide +kernel
theorem d_Bk_told_0 : decode b_Bk_told 0 = .ok (.aload_n 0, 1) := by decide +kernel
theorem d_Bk_told_1 : decode b_Bk_told 1 = .ok (.bipush 60, 2) := by decide +kernel
theorem d_Bk_told_3 : decode b_Bk_told 3 = .ok (.baload, 1) := by decide +kernel
theorem d_Bk_told_4 : decode b_Bk_told 4 = .ok (.sipush 255, 3) := by decide +kernel
theorem d_Bk_told_7 : decode b_Bk_told 7 = .ok (.iand, 1) := by decide +kernel
theorem d_Bk_told_8 : decode b_Bk_told 8 = .ok (.aload_n 0, 1) := by decide +kernel
theorem d_Bk_told_9 : decode b_Bk_told 9 = .ok (.bipush 61, 2) := by decide +kernel
theorem d_Bk_told_11 : decode b_Bk_told 11 = .ok (.baload, 1) := by decide +kernel
theorem d_Bk_told_12 : decode b_Bk_told 12 = .ok (.sipush 255, 3) := by decide +kernel
theorem d_Bk_told_15 : decode b_Bk_told 15 = .ok (.iand, 1) := by decide +kernel
theorem d_Bk_told_16 : decode b_Bk_told 16 = .ok (.bipush 8, 2) := by decide +kernel
theorem d_Bk_told_18 : decode b_Bk_told 18 = .ok (.ishl, 1) := by decide +kernel
theorem d_Bk_told_19 : decode b_Bk_told 19 = .ok (.ior, 1) := by decide +kernel
theorem d_Bk_told_20 : decode b_Bk_told 20 = .ok (.aload_n 0, 1) := by decide +kernel
theorem d_Bk_told_21 : decode b_Bk_told 21 = .ok (.bipush 62, 2) := by decide +kernel
theorem d_Bk_told_23 : decode b_Bk_told 23 = .ok (.baload, 1) := by decide +kernel
theorem d_Bk_told_24 : decode b_Bk_told 24 = .ok (.sipush 255, 3) := by decide +kernel
theorem d_Bk_told_27 : decode b_Bk_told 27 = .ok (.iand, 1) := by decide +kernel
theorem d_Bk_told_28 : decode b_Bk_told 28 = .ok (.bipush 16, 2) := by decide +kernel
theorem d_Bk_told_30 : decode b_Bk_told 30 = .ok (.ishl, 1) := by decide +kernel
theorem d_Bk_told_31 : decode b_Bk_told 31 = .ok (.ior, 1) := by decide +kernel
theorem d_Bk_told_32 : decode b_Bk_told 32 = .ok (.aload_n 0, 1) := by decide +kernel
theorem d_Bk_told_33 : decode b_Bk_told 33 = .ok (.bipush 63, 2) := by decide +kernel
theorem d_Bk_told_35 : decode b_Bk_told 35 = .ok (.baload, 1) := by decide +kernel
theorem d_Bk_told_36 : decode b_Bk_told 36 = .ok (.sipush 255, 3) := by decide +kernel
theorem d_Bk_told_39 : decode b_Bk_told 39 = .ok (.iand, 1) := by decide +kernel
theorem d_Bk_told_40 : decode b_Bk_told 40 = .ok (.bipush 24, 2) := by decide +kernel
theorem d_Bk_told_42 : decode b_Bk_told 42 = .ok (.ishl, 1) := by decide +kernel
theorem d_Bk_told_43 : decode b_Bk_told 43 = .ok (.ior, 1) := by decide +kernel
theorem d_Bk_told_44 : decode b_Bk_told 44 = .ok (.ireturn, 1) := by decide +kernel
theorem d_Bk_reads_0 : decode b_Bk_reads 0 = .ok (.aload_n 1, 1) := by decide +kernel
theorem d_Bk_reads_1 : decode b_Bk_reads 1 = .ok (.iconst 0, 1) := by decide +kernel
theorem d_Bk_reads_2 : decode b_Bk_reads 2 = .ok (.baload, 1) := by decide +kernel
theorem d_Bk_reads_3 : decode b_Bk_reads 3 = .ok (.sipush 255, 3) := by decide +kernel
theorem d_Bk_reads_6 : decode b_Bk_reads 6 = .ok (.iand, 1) := by decide +kernel
theorem d_Bk_reads_7 : decode b_Bk_reads 7 = .ok (.istore_n 2, 1) := by decide +kernel
theorem d_Bk_reads_8 : decode b_Bk_reads 8 = .ok (.iload_n 2, 1) := by decide +kernel
theorem d_Bk_reads_9 : decode b_Bk_reads 9 = .ok (.bipush 40, 2) := by decide +kernel
theorem d_Bk_reads_11 : decode b_Bk_reads 11 = .ok (.if_icmp .le 5, 3) := by decide +kernel
theorem d_Bk_reads_14 : decode b_Bk_reads 14 = .ok (.iconst 0, 1) := by decide +kernel
theorem d_Bk_reads_15 : decode b_Bk_reads 15 = .ok (.ireturn, 1) := by decide +kernel
theorem d_Bk_reads_16 : decode b_Bk_reads 16 = .ok (.iconst 0, 1) := by decide +kernel
theorem d_Bk_reads_17 : decode b_Bk_reads 17 = .ok (.istore_n 3, 1) := by decide +kernel
theorem d_Bk_reads_18 : decode b_Bk_reads 18 = .ok (.iload_n 3, 1) := by decide +kernel
theorem d_Bk_reads_19 : decode b_Bk_reads 19 = .ok (.iload_n 2, 1) := by decide +kernel
theorem d_Bk_reads_20 : decode b_Bk_reads 20 = .ok (.if_icmp .ge 68, 3) := by decide +kernel
theorem d_Bk_reads_23 : decode b_Bk_reads 23 = .ok (.aload_n 1, 1) := by decide +kernel
theorem d_Bk_reads_24 : decode b_Bk_reads 24 = .ok (.iconst 1, 1) := by decide +kernel
theorem d_Bk_reads_25 : decode b_Bk_reads 25 = .ok (.iload_n 3, 1) := by decide +kernel
theorem d_Bk_reads_26 : decode b_Bk_reads 26 = .ok (.iadd, 1) := by decide +kernel
theorem d_Bk_reads_27 : decode b_Bk_reads 27 = .ok (.baload, 1) := by decide +kernel
theorem d_Bk_reads_28 : decode b_Bk_reads 28 = .ok (.sipush 255, 3) := by decide +kernel
theorem d_Bk_reads_31 : decode b_Bk_reads 31 = .ok (.iand, 1) := by decide +kernel
theorem d_Bk_reads_32 : decode b_Bk_reads 32 = .ok (.istore 4, 2) := by decide +kernel
theorem d_Bk_reads_34 : decode b_Bk_reads 34 = .ok (.iload 4, 2) := by decide +kernel
theorem d_Bk_reads_36 : decode b_Bk_reads 36 = .ok (.iconst 3, 1) := by decide +kernel
theorem d_Bk_reads_37 : decode b_Bk_reads 37 = .ok (.if_icmp .lt 22, 3) := by decide +kernel
theorem d_Bk_reads_40 : decode b_Bk_reads 40 = .ok (.iload 4, 2) := by decide +kernel
theorem d_Bk_reads_42 : decode b_Bk_reads 42 = .ok (.aload_n 0, 1) := by decide +kernel
theorem d_Bk_reads_43 : decode b_Bk_reads 43 = .ok (.getfield 31, 3) := by decide +kernel
theorem d_Bk_reads_46 : decode b_Bk_reads 46 = .ok (.arraylength, 1) := by decide +kernel
theorem d_Bk_reads_47 : decode b_Bk_reads 47 = .ok (.if_icmp .ge 12, 3) := by decide +kernel
theorem d_Bk_reads_50 : decode b_Bk_reads 50 = .ok (.aload_n 0, 1) := by decide +kernel
theorem d_Bk_reads_51 : decode b_Bk_reads 51 = .ok (.iload 4, 2) := by decide +kernel
theorem d_Bk_reads_53 : decode b_Bk_reads 53 = .ok (.invokevirtual 81, 3) := by decide +kernel
theorem d_Bk_reads_56 : decode b_Bk_reads 56 = .ok (.ifCond .eq 5, 3) := by decide +kernel
theorem d_Bk_reads_59 : decode b_Bk_reads 59 = .ok (.iconst 0, 1) := by decide +kernel
theorem d_Bk_reads_60 : decode b_Bk_reads 60 = .ok (.ireturn, 1) := by decide +kernel
theorem d_Bk_reads_61 : decode b_Bk_reads 61 = .ok (.aload_n 0, 1) := by decide +kernel
theorem d_Bk_reads_62 : decode b_Bk_reads 62 = .ok (.getfield 16, 3) := by decide +kernel
theorem d_Bk_reads_65 : decode b_Bk_reads 65 = .ok (.aload_n 0, 1) := by decide +kernel
theorem d_Bk_reads_66 : decode b_Bk_reads 66 = .ok (.getfield 67, 3) := by decide +kernel
theorem d_Bk_reads_69 : decode b_Bk_reads 69 = .ok (.iload 4, 2) := by decide +kernel
theorem d_Bk_reads_71 : decode b_Bk_reads 71 = .ok (.iastore, 1) := by decide +kernel
theorem d_Bk_reads_72 : decode b_Bk_reads 72 = .ok (.aload_n 0, 1) := by decide +kernel
theorem d_Bk_reads_73 : decode b_Bk_reads 73 = .ok (.dup, 1) := by decide +kernel
theorem d_Bk_reads_74 : decode b_Bk_reads 74 = .ok (.getfield 67, 3) := by decide +kernel
theorem d_Bk_reads_77 : decode b_Bk_reads 77 = .ok (.iconst 1, 1) := by decide +kernel
theorem d_Bk_reads_78 : decode b_Bk_reads 78 = .ok (.iadd, 1) := by decide +kernel
theorem d_Bk_reads_79 : decode b_Bk_reads 79 = .ok (.putfield 67, 3) := by decide +kernel
theorem d_Bk_reads_82 : decode b_Bk_reads 82 = .ok (.iinc 3 1, 3) := by decide +kernel
theorem d_Bk_reads_85 : decode b_Bk_reads 85 = .ok (.goto (-67), 3) := by decide +kernel
theorem d_Bk_reads_88 : decode b_Bk_reads 88 = .ok (.iconst 1, 1) := by decide +kernel
theorem d_Bk_reads_89 : decode b_Bk_reads 89 = .ok (.ireturn, 1) := by decide +kernel
theorem d_Bk_isUsed_0 : decode b_Bk_isUsed 0 = .ok (.iconst 0, 1) := by decide +kernel
theorem d_Bk_isUsed_1 : decode b_Bk_isUsed 1 = .ok (.istore_n 2, 1) := by decide +kernel
theorem d_Bk_isUsed_2 : decode b_Bk_isUsed 2 = .ok (.iload_n 2, 1) := by decide +kernel
theorem d_Bk_isUsed_3 : decode b_Bk_isUsed 3 = .ok (.aload_n 0, 1) := by decide +kernel
theorem d_Bk_isUsed_4 : decode b_Bk_isUsed 4 = .ok (.getfield 67, 3) := by decide +kernel
theorem d_Bk_isUsed_7 : decode b_Bk_isUsed 7 = .ok (.if_icmp .ge 21, 3) := by decide +kernel
theorem d_Bk_isUsed_10 : decode b_Bk_isUsed 10 = .ok (.aload_n 0, 1) := by decide +kernel
theorem d_Bk_isUsed_11 : decode b_Bk_isUsed 11 = .ok (.getfield 16, 3) := by decide +kernel
theorem d_Bk_isUsed_14 : decode b_Bk_isUsed 14 = .ok (.iload_n 2, 1) := by decide +kernel
theorem d_Bk_isUsed_15 : decode b_Bk_isUsed 15 = .ok (.iaload, 1) := by decide +kernel
theorem d_Bk_isUsed_16 : decode b_Bk_isUsed 16 = .ok (.iload_n 1, 1) := by decide +kernel
theorem d_Bk_isUsed_17 : decode b_Bk_isUsed 17 = .ok (.if_icmp .ne 5, 3) := by decide +kernel
theorem d_Bk_isUsed_20 : decode b_Bk_isUsed 20 = .ok (.iconst 1, 1) := by decide +kernel
theorem d_Bk_isUsed_21 : decode b_Bk_isUsed 21 = .ok (.ireturn, 1) := by decide +kernel
theorem d_Bk_isUsed_22 : decode b_Bk_isUsed 22 = .ok (.iinc 2 1, 3) := by decide +kernel
theorem d_Bk_isUsed_25 : decode b_Bk_isUsed 25 = .ok (.goto (-23), 3) := by decide +kernel
theorem d_Bk_isUsed_28 : decode b_Bk_isUsed 28 = .ok (.iconst 0, 1) := by decide +kernel
theorem d_Bk_isUsed_29 : decode b_Bk_isUsed 29 = .ok (.ireturn, 1) := by decide +kernel
theorem d_Bk_sizeOf_0 : decode b_Bk_sizeOf 0 = .ok (.aload_n 0, 1) := by decide +kernel
theorem d_Bk_sizeOf_1 : decode b_Bk_sizeOf 1 = .ok (.getfield 31, 3) := by decide +kernel
theorem d_Bk_sizeOf_4 : decode b_Bk_sizeOf 4 = .ok (.iload_n 1, 1) := by decide +kernel
theorem d_Bk_sizeOf_5 : decode b_Bk_sizeOf 5 = .ok (.aaload, 1) := by decide +kernel
theorem d_Bk_sizeOf_6 : decode b_Bk_sizeOf 6 = .ok (.iconst 2, 1) := by decide +kernel
theorem d_Bk_sizeOf_7 : decode b_Bk_sizeOf 7 = .ok (.baload, 1) := by decide +kernel
theorem d_Bk_sizeOf_8 : decode b_Bk_sizeOf 8 = .ok (.sipush 255, 3) := by decide +kernel
theorem d_Bk_sizeOf_11 : decode b_Bk_sizeOf 11 = .ok (.iand, 1) := by decide +kernel
theorem d_Bk_sizeOf_12 : decode b_Bk_sizeOf 12 = .ok (.ireturn, 1) := by decide +kernel
theorem d_Bk_feed_0 : decode b_Bk_feed 0 = .ok (.iload_n 1, 1) := by decide +kernel
theorem d_Bk_feed_1 : decode b_Bk_feed 1 = .ok (.ifCond .lt 19, 3) := by decide +kernel
theorem d_Bk_feed_4 : decode b_Bk_feed 4 = .ok (.iload_n 1, 1) := by decide +kernel
theorem d_Bk_feed_5 : decode b_Bk_feed 5 = .ok (.sipush 255, 3) := by decide +kernel
theorem d_Bk_feed_8 : decode b_Bk_feed 8 = .ok (.if_icmp .gt 12, 3) := by decide +kernel
theorem d_Bk_feed_11 : decode b_Bk_feed 11 = .ok (.aload_n 0, 1) := by decide +kernel
theorem d_Bk_feed_12 : decode b_Bk_feed 12 = .ok (.getfield 74, 3) := by decide +kernel
theorem d_Bk_feed_15 : decode b_Bk_feed 15 = .ok (.bipush 48, 2) := by decide +kernel
theorem d_Bk_feed_17 : decode b_Bk_feed 17 = .ok (.if_icmp .ne 5, 3) := by decide +kernel
theorem d_Bk_feed_20 : decode b_Bk_feed 20 = .ok (.iconst 0, 1) := by decide +kernel
theorem d_Bk_feed_21 : decode b_Bk_feed 21 = .ok (.ireturn, 1) := by decide +kernel
theorem d_Bk_feed_22 : decode b_Bk_feed 22 = .ok (.aload_n 0, 1) := by decide +kernel
theorem d_Bk_feed_23 : decode b_Bk_feed 23 = .ok (.getfield 9, 3) := by decide +kernel
theorem d_Bk_feed_26 : decode b_Bk_feed 26 = .ok (.aload_n 0, 1) := by decide +kernel
theorem d_Bk_feed_27 : decode b_Bk_feed 27 = .ok (.getfield 74, 3) := by decide +kernel
theorem d_Bk_feed_30 : decode b_Bk_feed 30 = .ok (.iload_n 1, 1) := by decide +kernel
theorem d_Bk_feed_31 : decode b_Bk_feed 31 = .ok (.i2b, 1) := by decide +kernel
theorem d_Bk_feed_32 : decode b_Bk_feed 32 = .ok (.bastore, 1) := by decide +kernel
theorem d_Bk_feed_33 : decode b_Bk_feed 33 = .ok (.aload_n 0, 1) := by decide +kernel
theorem d_Bk_feed_34 : decode b_Bk_feed 34 = .ok (.dup, 1) := by decide +kernel
theorem d_Bk_feed_35 : decode b_Bk_feed 35 = .ok (.getfield 74, 3) := by decide +kernel
theorem d_Bk_feed_38 : decode b_Bk_feed 38 = .ok (.iconst 1, 1) := by decide +kernel
theorem d_Bk_feed_39 : decode b_Bk_feed 39 = .ok (.iadd, 1) := by decide +kernel
theorem d_Bk_feed_40 : decode b_Bk_feed 40 = .ok (.putfield 74, 3) := by decide +kernel
theorem d_Bk_feed_43 : decode b_Bk_feed 43 = .ok (.iconst 1, 1) := by decide +kernel
theorem d_Bk_feed_44 : decode b_Bk_feed 44 = .ok (.ireturn, 1) := by decide +kernel
theorem d_Bk_put_0 : decode b_Bk_put 0 = .ok (.aload_n 0, 1) := by decide +kernel
theorem d_Bk_put_1 : decode b_Bk_put 1 = .ok (.getfield 96, 3) := by decide +kernel
theorem d_Bk_put_4 : decode b_Bk_put 4 = .ok (.ifCond .eq 20, 3) := by decide +kernel
theorem d_Bk_put_7 : decode b_Bk_put 7 = .ok (.iload_n 1, 1) := by decide +kernel
theorem d_Bk_put_8 : decode b_Bk_put 8 = .ok (.ifCond .lt 16, 3) := by decide +kernel
theorem d_Bk_put_11 : decode b_Bk_put 11 = .ok (.iload_n 1, 1) := by decide +kernel
theorem d_Bk_put_12 : decode b_Bk_put 12 = .ok (.ldc 100, 2) := by decide +kernel
theorem d_Bk_put_14 : decode b_Bk_put 14 = .ok (.if_icmp .gt 10, 3) := by decide +kernel
theorem d_Bk_put_17 : decode b_Bk_put 17 = .ok (.aload_n 0, 1) := by decide +kernel
theorem d_Bk_put_18 : decode b_Bk_put 18 = .ok (.getfield 74, 3) := by decide +kernel
theorem d_Bk_put_21 : decode b_Bk_put 21 = .ok (.ifCond .ne 5, 3) := by decide +kernel
theorem d_Bk_put_24 : decode b_Bk_put 24 = .ok (.iconst (-1), 1) := by decide +kernel
theorem d_Bk_put_25 : decode b_Bk_put 25 = .ok (.ireturn, 1) := by decide +kernel
theorem d_Bk_put_26 : decode b_Bk_put 26 = .ok (.iconst 0, 1) := by decide +kernel
theorem d_Bk_put_27 : decode b_Bk_put 27 = .ok (.istore_n 2, 1) := by decide +kernel
theorem d_Bk_put_28 : decode b_Bk_put 28 = .ok (.iload_n 2, 1) := by decide +kernel
theorem d_Bk_put_29 : decode b_Bk_put 29 = .ok (.aload_n 0, 1) := by decide +kernel
theorem d_Bk_put_30 : decode b_Bk_put 30 = .ok (.getfield 67, 3) := by decide +kernel
theorem d_Bk_put_33 : decode b_Bk_put 33 = .ok (.if_icmp .ge 32, 3) := by decide +kernel
theorem d_Bk_put_36 : decode b_Bk_put 36 = .ok (.aload_n 0, 1) := by decide +kernel
theorem d_Bk_put_37 : decode b_Bk_put 37 = .ok (.aload_n 0, 1) := by decide +kernel
theorem d_Bk_put_38 : decode b_Bk_put 38 = .ok (.getfield 16, 3) := by decide +kernel
theorem d_Bk_put_41 : decode b_Bk_put 41 = .ok (.iload_n 2, 1) := by decide +kernel
theorem d_Bk_put_42 : decode b_Bk_put 42 = .ok (.iaload, 1) := by decide +kernel
theorem d_Bk_put_43 : decode b_Bk_put 43 = .ok (.invokevirtual 101, 3) := by decide +kernel
theorem d_Bk_put_46 : decode b_Bk_put 46 = .ok (.ifCond .ne 6, 3) := by decide +kernel
theorem d_Bk_put_49 : decode b_Bk_put 49 = .ok (.goto 10, 3) := by decide +kernel
theorem d_Bk_put_52 : decode b_Bk_put 52 = .ok (.aload_n 0, 1) := by decide +kernel
theorem d_Bk_put_53 : decode b_Bk_put 53 = .ok (.iconst 0, 1) := by decide +kernel
theorem d_Bk_put_54 : decode b_Bk_put 54 = .ok (.putfield 74, 3) := by decide +kernel
theorem d_Bk_put_57 : decode b_Bk_put 57 = .ok (.iload_n 2, 1) := by decide +kernel
theorem d_Bk_put_58 : decode b_Bk_put 58 = .ok (.ireturn, 1) := by decide +kernel
theorem d_Bk_put_59 : decode b_Bk_put 59 = .ok (.iinc 2 1, 3) := by decide +kernel
theorem d_Bk_put_62 : decode b_Bk_put 62 = .ok (.goto (-34), 3) := by decide +kernel
theorem d_Bk_put_65 : decode b_Bk_put 65 = .ok (.aload_n 0, 1) := by decide +kernel
theorem d_Bk_put_66 : decode b_Bk_put 66 = .ok (.invokevirtual 104, 3) := by decide +kernel
theorem d_Bk_put_69 : decode b_Bk_put 69 = .ok (.istore_n 2, 1) := by decide +kernel
theorem d_Bk_put_70 : decode b_Bk_put 70 = .ok (.aload_n 0, 1) := by decide +kernel
theorem d_Bk_put_71 : decode b_Bk_put 71 = .ok (.getfield 67, 3) := by decide +kernel
theorem d_Bk_put_74 : decode b_Bk_put 74 = .ok (.bipush 40, 2) := by decide +kernel
theorem d_Bk_put_76 : decode b_Bk_put 76 = .ok (.if_icmp .eq 7, 3) := by decide +kernel
theorem d_Bk_put_79 : decode b_Bk_put 79 = .ok (.iload_n 2, 1) := by decide +kernel
theorem d_Bk_put_80 : decode b_Bk_put 80 = .ok (.ifCond .ge 5, 3) := by decide +kernel
theorem d_Bk_put_83 : decode b_Bk_put 83 = .ok (.iconst (-1), 1) := by decide +kernel
theorem d_Bk_put_84 : decode b_Bk_put 84 = .ok (.ireturn, 1) := by decide +kernel
theorem d_Bk_put_85 : decode b_Bk_put 85 = .ok (.aload_n 0, 1) := by decide +kernel
theorem d_Bk_put_86 : decode b_Bk_put 86 = .ok (.invokevirtual 64, 3) := by decide +kernel
theorem d_Bk_put_89 : decode b_Bk_put 89 = .ok (.aload_n 0, 1) := by decide +kernel
theorem d_Bk_put_90 : decode b_Bk_put 90 = .ok (.getfield 13, 3) := by decide +kernel
theorem d_Bk_put_93 : decode b_Bk_put 93 = .ok (.iconst 0, 1) := by decide +kernel
theorem d_Bk_put_94 : decode b_Bk_put 94 = .ok (.iload_n 1, 1) := by decide +kernel
theorem d_Bk_put_95 : decode b_Bk_put 95 = .ok (.i2b, 1) := by decide +kernel
theorem d_Bk_put_96 : decode b_Bk_put 96 = .ok (.bastore, 1) := by decide +kernel
theorem d_Bk_put_97 : decode b_Bk_put 97 = .ok (.aload_n 0, 1) := by decide +kernel
theorem d_Bk_put_98 : decode b_Bk_put 98 = .ok (.getfield 13, 3) := by decide +kernel
theorem d_Bk_put_101 : decode b_Bk_put 101 = .ok (.iconst 1, 1) := by decide +kernel
theorem d_Bk_put_102 : decode b_Bk_put 102 = .ok (.iload_n 1, 1) := by decide +kernel
theorem d_Bk_put_103 : decode b_Bk_put 103 = .ok (.bipush 8, 2) := by decide +kernel
theorem d_Bk_put_105 : decode b_Bk_put 105 = .ok (.ishr, 1) := by decide +kernel
theorem d_Bk_put_106 : decode b_Bk_put 106 = .ok (.i2b, 1) := by decide +kernel
theorem d_Bk_put_107 : decode b_Bk_put 107 = .ok (.bastore, 1) := by decide +kernel
theorem d_Bk_put_108 : decode b_Bk_put 108 = .ok (.aload_n 0, 1) := by decide +kernel
theorem d_Bk_put_109 : decode b_Bk_put 109 = .ok (.getfield 13, 3) := by decide +kernel
theorem d_Bk_put_112 : decode b_Bk_put 112 = .ok (.iconst 2, 1) := by decide +kernel
theorem d_Bk_put_113 : decode b_Bk_put 113 = .ok (.aload_n 0, 1) := by decide +kernel
theorem d_Bk_put_114 : decode b_Bk_put 114 = .ok (.getfield 74, 3) := by decide +kernel
theorem d_Bk_put_117 : decode b_Bk_put 117 = .ok (.i2b, 1) := by decide +kernel
theorem d_Bk_put_118 : decode b_Bk_put 118 = .ok (.bastore, 1) := by decide +kernel
theorem d_Bk_put_119 : decode b_Bk_put 119 = .ok (.iconst 0, 1) := by decide +kernel
theorem d_Bk_put_120 : decode b_Bk_put 120 = .ok (.istore_n 3, 1) := by decide +kernel
theorem d_Bk_put_121 : decode b_Bk_put 121 = .ok (.iload_n 3, 1) := by decide +kernel
theorem d_Bk_put_122 : decode b_Bk_put 122 = .ok (.aload_n 0, 1) := by decide +kernel
theorem d_Bk_put_123 : decode b_Bk_put 123 = .ok (.getfield 74, 3) := by decide +kernel
theorem d_Bk_put_126 : decode b_Bk_put 126 = .ok (.if_icmp .ge 23, 3) := by decide +kernel
theorem d_Bk_put_129 : decode b_Bk_put 129 = .ok (.aload_n 0, 1) := by decide +kernel
theorem d_Bk_put_130 : decode b_Bk_put 130 = .ok (.getfield 13, 3) := by decide +kernel
theorem d_Bk_put_133 : decode b_Bk_put 133 = .ok (.iconst 3, 1) := by decide +kernel
theorem d_Bk_put_134 : decode b_Bk_put 134 = .ok (.iload_n 3, 1) := by decide +kernel
theorem d_Bk_put_135 : decode b_Bk_put 135 = .ok (.iadd, 1) := by decide +kernel
theorem d_Bk_put_136 : decode b_Bk_put 136 = .ok (.aload_n 0, 1) := by decide +kernel
theorem d_Bk_put_137 : decode b_Bk_put 137 = .ok (.getfield 9, 3) := by decide +kernel
theorem d_Bk_put_140 : decode b_Bk_put 140 = .ok (.iload_n 3, 1) := by decide +kernel
theorem d_Bk_put_141 : decode b_Bk_put 141 = .ok (.baload, 1) := by decide +kernel
theorem d_Bk_put_142 : decode b_Bk_put 142 = .ok (.bastore, 1) := by decide +kernel
theorem d_Bk_put_143 : decode b_Bk_put 143 = .ok (.iinc 3 1, 3) := by decide +kernel
theorem d_Bk_put_146 : decode b_Bk_put 146 = .ok (.goto (-25), 3) := by decide +kernel
theorem d_Bk_put_149 : decode b_Bk_put 149 = .ok (.aload_n 0, 1) := by decide +kernel
theorem d_Bk_put_150 : decode b_Bk_put 150 = .ok (.iconst 0, 1) := by decide +kernel
theorem d_Bk_put_151 : decode b_Bk_put 151 = .ok (.putfield 74, 3) := by decide +kernel
theorem d_Bk_put_154 : decode b_Bk_put 154 = .ok (.aload_n 0, 1) := by decide +kernel
theorem d_Bk_put_155 : decode b_Bk_put 155 = .ok (.invokevirtual 71, 3) := by decide +kernel
theorem d_Bk_put_158 : decode b_Bk_put 158 = .ok (.aload_n 0, 1) := by decide +kernel
theorem d_Bk_put_159 : decode b_Bk_put 159 = .ok (.getfield 39, 3) := by decide +kernel
theorem d_Bk_put_162 : decode b_Bk_put 162 = .ok (.iconst 0, 1) := by decide +kernel
theorem d_Bk_put_163 : decode b_Bk_put 163 = .ok (.putfield 107, 3) := by decide +kernel
theorem d_Bk_put_166 : decode b_Bk_put 166 = .ok (.aload_n 0, 1) := by decide +kernel
theorem d_Bk_put_167 : decode b_Bk_put 167 = .ok (.getfield 39, 3) := by decide +kernel
theorem d_Bk_put_170 : decode b_Bk_put 170 = .ok (.iload_n 2, 1) := by decide +kernel
theorem d_Bk_put_171 : decode b_Bk_put 171 = .ok (.aload_n 0, 1) := by decide +kernel
theorem d_Bk_put_172 : decode b_Bk_put 172 = .ok (.getfield 13, 3) := by decide +kernel
theorem d_Bk_put_175 : decode b_Bk_put 175 = .ok (.invokevirtual 88, 3) := by decide +kernel
theorem d_Bk_put_178 : decode b_Bk_put 178 = .ok (.aload_n 0, 1) := by decide +kernel
theorem d_Bk_put_179 : decode b_Bk_put 179 = .ok (.getfield 16, 3) := by decide +kernel
theorem d_Bk_put_182 : decode b_Bk_put 182 = .ok (.aload_n 0, 1) := by decide +kernel
theorem d_Bk_put_183 : decode b_Bk_put 183 = .ok (.getfield 67, 3) := by decide +kernel
theorem d_Bk_put_186 : decode b_Bk_put 186 = .ok (.iload_n 2, 1) := by decide +kernel
theorem d_Bk_put_187 : decode b_Bk_put 187 = .ok (.iastore, 1) := by decide +kernel
theorem d_Bk_put_188 : decode b_Bk_put 188 = .ok (.aload_n 0, 1) := by decide +kernel
theorem d_Bk_put_189 : decode b_Bk_put 189 = .ok (.dup, 1) := by decide +kernel
theorem d_Bk_put_190 : decode b_Bk_put 190 = .ok (.getfield 67, 3) := by decide +kernel
theorem d_Bk_put_193 : decode b_Bk_put 193 = .ok (.iconst 1, 1) := by decide +kernel
theorem d_Bk_put_194 : decode b_Bk_put 194 = .ok (.iadd, 1) := by decide +kernel
theorem d_Bk_put_195 : decode b_Bk_put 195 = .ok (.putfield 67, 3) := by decide +kernel
theorem d_Bk_put_198 : decode b_Bk_put 198 = .ok (.aload_n 0, 1) := by decide +kernel
theorem d_Bk_put_199 : decode b_Bk_put 199 = .ok (.iconst (-1), 1) := by decide +kernel
theorem d_Bk_put_200 : decode b_Bk_put 200 = .ok (.invokevirtual 43, 3) := by decide +kernel
theorem d_Bk_put_203 : decode b_Bk_put 203 = .ok (.aload_n 0, 1) := by decide +kernel
theorem d_Bk_put_204 : decode b_Bk_put 204 = .ok (.invokevirtual 110, 3) := by decide +kernel
theorem d_Bk_put_207 : decode b_Bk_put 207 = .ok (.aload_n 0, 1) := by decide +kernel
theorem d_Bk_put_208 : decode b_Bk_put 208 = .ok (.getfield 67, 3) := by decide +kernel
theorem d_Bk_put_211 : decode b_Bk_put 211 = .ok (.iconst 1, 1) := by decide +kernel
theorem d_Bk_put_212 : decode b_Bk_put 212 = .ok (.isub, 1) := by decide +kernel
theorem d_Bk_put_213 : decode b_Bk_put 213 = .ok (.ireturn, 1) := by decide +kernel
theorem d_Bk_isFed_0 : decode b_Bk_isFed 0 = .ok (.aload_n 0, 1) := by decide +kernel
theorem d_Bk_isFed_1 : decode b_Bk_isFed 1 = .ok (.iload_n 1, 1) := by decide +kernel
theorem d_Bk_isFed_2 : decode b_Bk_isFed 2 = .ok (.invokevirtual 77, 3) := by decide +kernel
theorem d_Bk_isFed_5 : decode b_Bk_isFed 5 = .ok (.aload_n 0, 1) := by decide +kernel
theorem d_Bk_isFed_6 : decode b_Bk_isFed 6 = .ok (.getfield 74, 3) := by decide +kernel
theorem d_Bk_isFed_9 : decode b_Bk_isFed 9 = .ok (.if_icmp .eq 5, 3) := by decide +kernel
theorem d_Bk_isFed_12 : decode b_Bk_isFed 12 = .ok (.iconst 0, 1) := by decide +kernel
theorem d_Bk_isFed_13 : decode b_Bk_isFed 13 = .ok (.ireturn, 1) := by decide +kernel
theorem d_Bk_isFed_14 : decode b_Bk_isFed 14 = .ok (.iconst 0, 1) := by decide +kernel
theorem d_Bk_isFed_15 : decode b_Bk_isFed 15 = .ok (.istore_n 2, 1) := by decide +kernel
theorem d_Bk_isFed_16 : decode b_Bk_isFed 16 = .ok (.iload_n 2, 1) := by decide +kernel
theorem d_Bk_isFed_17 : decode b_Bk_isFed 17 = .ok (.aload_n 0, 1) := by decide +kernel
theorem d_Bk_isFed_18 : decode b_Bk_isFed 18 = .ok (.getfield 74, 3) := by decide +kernel
theorem d_Bk_isFed_21 : decode b_Bk_isFed 21 = .ok (.if_icmp .ge 30, 3) := by decide +kernel
theorem d_Bk_isFed_24 : decode b_Bk_isFed 24 = .ok (.aload_n 0, 1) := by decide +kernel
theorem d_Bk_isFed_25 : decode b_Bk_isFed 25 = .ok (.getfield 31, 3) := by decide +kernel
theorem d_Bk_isFed_28 : decode b_Bk_isFed 28 = .ok (.iload_n 1, 1) := by decide +kernel
theorem d_Bk_isFed_29 : decode b_Bk_isFed 29 = .ok (.aaload, 1) := by decide +kernel
theorem d_Bk_isFed_30 : decode b_Bk_isFed 30 = .ok (.iconst 3, 1) := by decide +kernel
theorem d_Bk_isFed_31 : decode b_Bk_isFed 31 = .ok (.iload_n 2, 1) := by decide +kernel
theorem d_Bk_isFed_32 : decode b_Bk_isFed 32 = .ok (.iadd, 1) := by decide +kernel
theorem d_Bk_isFed_33 : decode b_Bk_isFed 33 = .ok (.baload, 1) := by decide +kernel
theorem d_Bk_isFed_34 : decode b_Bk_isFed 34 = .ok (.aload_n 0, 1) := by decide +kernel
theorem d_Bk_isFed_35 : decode b_Bk_isFed 35 = .ok (.getfield 9, 3) := by decide +kernel
theorem d_Bk_isFed_38 : decode b_Bk_isFed 38 = .ok (.iload_n 2, 1) := by decide +kernel
theorem d_Bk_isFed_39 : decode b_Bk_isFed 39 = .ok (.baload, 1) := by decide +kernel
theorem d_Bk_isFed_40 : decode b_Bk_isFed 40 = .ok (.if_icmp .eq 5, 3) := by decide +kernel
theorem d_Bk_isFed_43 : decode b_Bk_isFed 43 = .ok (.iconst 0, 1) := by decide +kernel
theorem d_Bk_isFed_44 : decode b_Bk_isFed 44 = .ok (.ireturn, 1) := by decide +kernel
theorem d_Bk_isFed_45 : decode b_Bk_isFed 45 = .ok (.iinc 2 1, 3) := by decide +kernel
theorem d_Bk_isFed_48 : decode b_Bk_isFed 48 = .ok (.goto (-32), 3) := by decide +kernel
theorem d_Bk_isFed_51 : decode b_Bk_isFed 51 = .ok (.iconst 1, 1) := by decide +kernel
theorem d_Bk_isFed_52 : decode b_Bk_isFed 52 = .ok (.ireturn, 1) := by decide +kernel
theorem d_Bk_freeBlock_0 : decode b_Bk_freeBlock 0 = .ok (.iconst 3, 1) := by decide +kernel
theorem d_Bk_freeBlock_1 : decode b_Bk_freeBlock 1 = .ok (.istore_n 1, 1) := by decide +kernel
theorem d_Bk_freeBlock_2 : decode b_Bk_freeBlock 2 = .ok (.iload_n 1, 1) := by decide +kernel
theorem d_Bk_freeBlock_3 : decode b_Bk_freeBlock 3 = .ok (.aload_n 0, 1) := by decide +kernel
theorem d_Bk_freeBlock_4 : decode b_Bk_freeBlock 4 = .ok (.getfield 31, 3) := by decide +kernel
theorem d_Bk_freeBlock_7 : decode b_Bk_freeBlock 7 = .ok (.arraylength, 1) := by decide +kernel
theorem d_Bk_freeBlock_8 : decode b_Bk_freeBlock 8 = .ok (.if_icmp .ge 19, 3) := by decide +kernel
theorem d_Bk_freeBlock_11 : decode b_Bk_freeBlock 11 = .ok (.aload_n 0, 1) := by decide +kernel
theorem d_Bk_freeBlock_12 : decode b_Bk_freeBlock 12 = .ok (.iload_n 1, 1) := by decide +kernel
theorem d_Bk_freeBlock_13 : decode b_Bk_freeBlock 13 = .ok (.invokevirtual 81, 3) := by decide +kernel
theorem d_Bk_freeBlock_16 : decode b_Bk_freeBlock 16 = .ok (.ifCond .ne 5, 3) := by decide +kernel
theorem d_Bk_freeBlock_19 : decode b_Bk_freeBlock 19 = .ok (.iload_n 1, 1) := by decide +kernel
theorem d_Bk_freeBlock_20 : decode b_Bk_freeBlock 20 = .ok (.ireturn, 1) := by decide +kernel
theorem d_Bk_freeBlock_21 : decode b_Bk_freeBlock 21 = .ok (.iinc 1 1, 3) := by decide +kernel
theorem d_Bk_freeBlock_24 : decode b_Bk_freeBlock 24 = .ok (.goto (-22), 3) := by decide +kernel
theorem d_Bk_freeBlock_27 : decode b_Bk_freeBlock 27 = .ok (.iconst (-1), 1) := by decide +kernel
theorem d_Bk_freeBlock_28 : decode b_Bk_freeBlock 28 = .ok (.ireturn, 1) := by decide +kernel
theorem d_Pn_writeAll_0 : decode b_Pn_writeAll 0 = .ok (.iconst 0, 1) := by decide +kernel
theorem d_Pn_writeAll_1 : decode b_Pn_writeAll 1 = .ok (.istore_n 3, 1) := by decide +kernel
theorem d_Pn_writeAll_2 : decode b_Pn_writeAll 2 = .ok (.iload_n 3, 1) := by decide +kernel
theorem d_Pn_writeAll_3 : decode b_Pn_writeAll 3 = .ok (.bipush 64, 2) := by decide +kernel
theorem d_Pn_writeAll_5 : decode b_Pn_writeAll 5 = .ok (.if_icmp .ge 18, 3) := by decide +kernel
theorem d_Pn_writeAll_8 : decode b_Pn_writeAll 8 = .ok (.aload_n 0, 1) := by decide +kernel
theorem d_Pn_writeAll_9 : decode b_Pn_writeAll 9 = .ok (.iload_n 1, 1) := by decide +kernel
theorem d_Pn_writeAll_10 : decode b_Pn_writeAll 10 = .ok (.iload_n 3, 1) := by decide +kernel
theorem d_Pn_writeAll_11 : decode b_Pn_writeAll 11 = .ok (.aload_n 2, 1) := by decide +kernel
theorem d_Pn_writeAll_12 : decode b_Pn_writeAll 12 = .ok (.iload_n 3, 1) := by decide +kernel
theorem d_Pn_writeAll_13 : decode b_Pn_writeAll 13 = .ok (.baload, 1) := by decide +kernel
theorem d_Pn_writeAll_14 : decode b_Pn_writeAll 14 = .ok (.invokevirtual 30, 3) := by decide +kernel
theorem d_Pn_writeAll_17 : decode b_Pn_writeAll 17 = .ok (.iinc 3 1, 3) := by decide +kernel
theorem d_Pn_writeAll_20 : decode b_Pn_writeAll 20 = .ok (.goto (-18), 3) := by decide +kernel
theorem d_Pn_writeAll_23 : decode b_Pn_writeAll 23 = .ok (.return_, 1) := by decide +kernel
theorem d_Pn_write_0 : decode b_Pn_write 0 = .ok (.aload_n 0, 1) := by decide +kernel
theorem d_Pn_write_1 : decode b_Pn_write 1 = .ok (.getfield 9, 3) := by decide +kernel
theorem d_Pn_write_4 : decode b_Pn_write 4 = .ok (.aload_n 0, 1) := by decide +kernel
theorem d_Pn_write_5 : decode b_Pn_write 5 = .ok (.getfield 26, 3) := by decide +kernel
theorem d_Pn_write_8 : decode b_Pn_write 8 = .ok (.iload_n 1, 1) := by decide +kernel
theorem d_Pn_write_9 : decode b_Pn_write 9 = .ok (.iastore, 1) := by decide +kernel
theorem d_Pn_write_10 : decode b_Pn_write 10 = .ok (.aload_n 0, 1) := by decide +kernel
theorem d_Pn_write_11 : decode b_Pn_write 11 = .ok (.getfield 15, 3) := by decide +kernel
theorem d_Pn_write_14 : decode b_Pn_write 14 = .ok (.aload_n 0, 1) := by decide +kernel
theorem d_Pn_write_15 : decode b_Pn_write 15 = .ok (.getfield 26, 3) := by decide +kernel
theorem d_Pn_write_18 : decode b_Pn_write 18 = .ok (.iload_n 2, 1) := by decide +kernel
theorem d_Pn_write_19 : decode b_Pn_write 19 = .ok (.iastore, 1) := by decide +kernel
theorem d_Pn_write_20 : decode b_Pn_write 20 = .ok (.aload_n 0, 1) := by decide +kernel
theorem d_Pn_write_21 : decode b_Pn_write 21 = .ok (.getfield 18, 3) := by decide +kernel
theorem d_Pn_write_24 : decode b_Pn_write 24 = .ok (.aload_n 0, 1) := by decide +kernel
theorem d_Pn_write_25 : decode b_Pn_write 25 = .ok (.getfield 26, 3) := by decide +kernel
theorem d_Pn_write_28 : decode b_Pn_write 28 = .ok (.aload_n 0, 1) := by decide +kernel
theorem d_Pn_write_29 : decode b_Pn_write 29 = .ok (.getfield 22, 3) := by decide +kernel
theorem d_Pn_write_32 : decode b_Pn_write 32 = .ok (.iload_n 1, 1) := by decide +kernel
theorem d_Pn_write_33 : decode b_Pn_write 33 = .ok (.aaload, 1) := by decide +kernel
theorem d_Pn_write_34 : decode b_Pn_write 34 = .ok (.iload_n 2, 1) := by decide +kernel
theorem d_Pn_write_35 : decode b_Pn_write 35 = .ok (.baload, 1) := by decide +kernel
theorem d_Pn_write_36 : decode b_Pn_write 36 = .ok (.bastore, 1) := by decide +kernel
theorem d_Pn_write_37 : decode b_Pn_write 37 = .ok (.aload_n 0, 1) := by decide +kernel
theorem d_Pn_write_38 : decode b_Pn_write 38 = .ok (.dup, 1) := by decide +kernel
theorem d_Pn_write_39 : decode b_Pn_write 39 = .ok (.getfield 26, 3) := by decide +kernel
theorem d_Pn_write_42 : decode b_Pn_write 42 = .ok (.iconst 1, 1) := by decide +kernel
theorem d_Pn_write_43 : decode b_Pn_write 43 = .ok (.iadd, 1) := by decide +kernel
theorem d_Pn_write_44 : decode b_Pn_write 44 = .ok (.putfield 26, 3) := by decide +kernel
theorem d_Pn_write_47 : decode b_Pn_write 47 = .ok (.aload_n 0, 1) := by decide +kernel
theorem d_Pn_write_48 : decode b_Pn_write 48 = .ok (.getfield 22, 3) := by decide +kernel
theorem d_Pn_write_51 : decode b_Pn_write 51 = .ok (.iload_n 1, 1) := by decide +kernel
theorem d_Pn_write_52 : decode b_Pn_write 52 = .ok (.aaload, 1) := by decide +kernel
theorem d_Pn_write_53 : decode b_Pn_write 53 = .ok (.iload_n 2, 1) := by decide +kernel
theorem d_Pn_write_54 : decode b_Pn_write 54 = .ok (.iload_n 3, 1) := by decide +kernel
theorem d_Pn_write_55 : decode b_Pn_write 55 = .ok (.bastore, 1) := by decide +kernel
theorem d_Pn_write_56 : decode b_Pn_write 56 = .ok (.return_, 1) := by decide +kernel
theorem d_Bk_turnTo_0 : decode b_Bk_turnTo 0 = .ok (.aload_n 0, 1) := by decide +kernel
theorem d_Bk_turnTo_1 : decode b_Bk_turnTo 1 = .ok (.iconst 3, 1) := by decide +kernel
theorem d_Bk_turnTo_2 : decode b_Bk_turnTo 2 = .ok (.aload_n 0, 1) := by decide +kernel
theorem d_Bk_turnTo_3 : decode b_Bk_turnTo 3 = .ok (.getfield 85, 3) := by decide +kernel
theorem d_Bk_turnTo_6 : decode b_Bk_turnTo 6 = .ok (.isub, 1) := by decide +kernel
theorem d_Bk_turnTo_7 : decode b_Bk_turnTo 7 = .ok (.putfield 85, 3) := by decide +kernel
theorem d_Bk_turnTo_10 : decode b_Bk_turnTo 10 = .ok (.aload_n 0, 1) := by decide +kernel
theorem d_Bk_turnTo_11 : decode b_Bk_turnTo 11 = .ok (.getfield 39, 3) := by decide +kernel
theorem d_Bk_turnTo_14 : decode b_Bk_turnTo 14 = .ok (.aload_n 0, 1) := by decide +kernel
theorem d_Bk_turnTo_15 : decode b_Bk_turnTo 15 = .ok (.getfield 85, 3) := by decide +kernel
theorem d_Bk_turnTo_18 : decode b_Bk_turnTo 18 = .ok (.aload_n 0, 1) := by decide +kernel
theorem d_Bk_turnTo_19 : decode b_Bk_turnTo 19 = .ok (.getfield 13, 3) := by decide +kernel
theorem d_Bk_turnTo_22 : decode b_Bk_turnTo 22 = .ok (.invokevirtual 88, 3) := by decide +kernel
theorem d_Bk_turnTo_25 : decode b_Bk_turnTo 25 = .ok (.aload_n 0, 1) := by decide +kernel
theorem d_Bk_turnTo_26 : decode b_Bk_turnTo 26 = .ok (.getfield 39, 3) := by decide +kernel
theorem d_Bk_turnTo_29 : decode b_Bk_turnTo 29 = .ok (.iconst 0, 1) := by decide +kernel
theorem d_Bk_turnTo_30 : decode b_Bk_turnTo 30 = .ok (.iconst 0, 1) := by decide +kernel
theorem d_Bk_turnTo_31 : decode b_Bk_turnTo 31 = .ok (.aload_n 0, 1) := by decide +kernel
theorem d_Bk_turnTo_32 : decode b_Bk_turnTo 32 = .ok (.getfield 85, 3) := by decide +kernel
theorem d_Bk_turnTo_35 : decode b_Bk_turnTo 35 = .ok (.i2b, 1) := by decide +kernel
theorem d_Bk_turnTo_36 : decode b_Bk_turnTo 36 = .ok (.invokevirtual 92, 3) := by decide +kernel
theorem d_Bk_turnTo_39 : decode b_Bk_turnTo 39 = .ok (.return_, 1) := by decide +kernel
theorem d_Bk_find_0 : decode b_Bk_find 0 = .ok (.aload_n 0, 1) := by decide +kernel
theorem d_Bk_find_1 : decode b_Bk_find 1 = .ok (.getfield 96, 3) := by decide +kernel
theorem d_Bk_find_4 : decode b_Bk_find 4 = .ok (.ifCond .ne 5, 3) := by decide +kernel
theorem d_Bk_find_7 : decode b_Bk_find 7 = .ok (.iconst (-1), 1) := by decide +kernel
theorem d_Bk_find_8 : decode b_Bk_find 8 = .ok (.ireturn, 1) := by decide +kernel
theorem d_Bk_find_9 : decode b_Bk_find 9 = .ok (.aload_n 0, 1) := by decide +kernel
theorem d_Bk_find_10 : decode b_Bk_find 10 = .ok (.getfield 67, 3) := by decide +kernel
theorem d_Bk_find_13 : decode b_Bk_find 13 = .ok (.iconst 1, 1) := by decide +kernel
theorem d_Bk_find_14 : decode b_Bk_find 14 = .ok (.isub, 1) := by decide +kernel
theorem d_Bk_find_15 : decode b_Bk_find 15 = .ok (.istore_n 3, 1) := by decide +kernel
theorem d_Bk_find_16 : decode b_Bk_find 16 = .ok (.iload_n 3, 1) := by decide +kernel
theorem d_Bk_find_17 : decode b_Bk_find 17 = .ok (.ifCond .lt 74, 3) := by decide +kernel
theorem d_Bk_find_20 : decode b_Bk_find 20 = .ok (.aload_n 0, 1) := by decide +kernel
theorem d_Bk_find_21 : decode b_Bk_find 21 = .ok (.aload_n 0, 1) := by decide +kernel
theorem d_Bk_find_22 : decode b_Bk_find 22 = .ok (.getfield 16, 3) := by decide +kernel
theorem d_Bk_find_25 : decode b_Bk_find 25 = .ok (.iload_n 3, 1) := by decide +kernel
theorem d_Bk_find_26 : decode b_Bk_find 26 = .ok (.iaload, 1) := by decide +kernel
theorem d_Bk_find_27 : decode b_Bk_find 27 = .ok (.invokevirtual 113, 3) := by decide +kernel
theorem d_Bk_find_30 : decode b_Bk_find 30 = .ok (.iload_n 1, 1) := by decide +kernel
theorem d_Bk_find_31 : decode b_Bk_find 31 = .ok (.if_icmp .eq 6, 3) := by decide +kernel
theorem d_Bk_find_34 : decode b_Bk_find 34 = .ok (.goto 51, 3) := by decide +kernel
theorem d_Bk_find_37 : decode b_Bk_find 37 = .ok (.iload_n 2, 1) := by decide +kernel
theorem d_Bk_find_38 : decode b_Bk_find 38 = .ok (.ifCond .lt 23, 3) := by decide +kernel
theorem d_Bk_find_41 : decode b_Bk_find 41 = .ok (.iload_n 2, 1) := by decide +kernel
theorem d_Bk_find_42 : decode b_Bk_find 42 = .ok (.aload_n 0, 1) := by decide +kernel
theorem d_Bk_find_43 : decode b_Bk_find 43 = .ok (.aload_n 0, 1) := by decide +kernel
theorem d_Bk_find_44 : decode b_Bk_find 44 = .ok (.getfield 16, 3) := by decide +kernel
theorem d_Bk_find_47 : decode b_Bk_find 47 = .ok (.iload_n 3, 1) := by decide +kernel
theorem d_Bk_find_48 : decode b_Bk_find 48 = .ok (.iaload, 1) := by decide +kernel
theorem d_Bk_find_49 : decode b_Bk_find 49 = .ok (.invokevirtual 77, 3) := by decide +kernel
theorem d_Bk_find_52 : decode b_Bk_find 52 = .ok (.if_icmp .ge 9, 3) := by decide +kernel
theorem d_Bk_find_55 : decode b_Bk_find 55 = .ok (.iload_n 2, 1) := by decide +kernel
theorem d_Bk_find_56 : decode b_Bk_find 56 = .ok (.bipush 48, 2) := by decide +kernel
theorem d_Bk_find_58 : decode b_Bk_find 58 = .ok (.if_icmp .lt 7, 3) := by decide +kernel
theorem d_Bk_find_61 : decode b_Bk_find 61 = .ok (.iconst (-1), 1) := by decide +kernel
theorem d_Bk_find_62 : decode b_Bk_find 62 = .ok (.goto 22, 3) := by decide +kernel
theorem d_Bk_find_65 : decode b_Bk_find 65 = .ok (.aload_n 0, 1) := by decide +kernel
theorem d_Bk_find_66 : decode b_Bk_find 66 = .ok (.getfield 31, 3) := by decide +kernel
theorem d_Bk_find_69 : decode b_Bk_find 69 = .ok (.aload_n 0, 1) := by decide +kernel
theorem d_Bk_find_70 : decode b_Bk_find 70 = .ok (.getfield 16, 3) := by decide +kernel
theorem d_Bk_find_73 : decode b_Bk_find 73 = .ok (.iload_n 3, 1) := by decide +kernel
theorem d_Bk_find_74 : decode b_Bk_find 74 = .ok (.iaload, 1) := by decide +kernel
theorem d_Bk_find_75 : decode b_Bk_find 75 = .ok (.aaload, 1) := by decide +kernel
theorem d_Bk_find_76 : decode b_Bk_find 76 = .ok (.iconst 3, 1) := by decide +kernel
theorem d_Bk_find_77 : decode b_Bk_find 77 = .ok (.iload_n 2, 1) := by decide +kernel
theorem d_Bk_find_78 : decode b_Bk_find 78 = .ok (.iadd, 1) := by decide +kernel
theorem d_Bk_find_79 : decode b_Bk_find 79 = .ok (.baload, 1) := by decide +kernel
theorem d_Bk_find_80 : decode b_Bk_find 80 = .ok (.sipush 255, 3) := by decide +kernel
theorem d_Bk_find_83 : decode b_Bk_find 83 = .ok (.iand, 1) := by decide +kernel
theorem d_Bk_find_84 : decode b_Bk_find 84 = .ok (.ireturn, 1) := by decide +kernel
theorem d_Bk_find_85 : decode b_Bk_find 85 = .ok (.iinc 3 (-1), 3) := by decide +kernel
theorem d_Bk_find_88 : decode b_Bk_find 88 = .ok (.goto (-72), 3) := by decide +kernel
theorem d_Bk_find_91 : decode b_Bk_find 91 = .ok (.iconst (-1), 1) := by decide +kernel
theorem d_Bk_find_92 : decode b_Bk_find 92 = .ok (.ireturn, 1) := by decide +kernel
theorem d_Bk_nameOf_0 : decode b_Bk_nameOf 0 = .ok (.aload_n 0, 1) := by decide +kernel
theorem d_Bk_nameOf_1 : decode b_Bk_nameOf 1 = .ok (.getfield 31, 3) := by decide +kernel
theorem d_Bk_nameOf_4 : decode b_Bk_nameOf 4 = .ok (.iload_n 1, 1) := by decide +kernel
theorem d_Bk_nameOf_5 : decode b_Bk_nameOf 5 = .ok (.aaload, 1) := by decide +kernel
theorem d_Bk_nameOf_6 : decode b_Bk_nameOf 6 = .ok (.iconst 0, 1) := by decide +kernel
theorem d_Bk_nameOf_7 : decode b_Bk_nameOf 7 = .ok (.baload, 1) := by decide +kernel
theorem d_Bk_nameOf_8 : decode b_Bk_nameOf 8 = .ok (.sipush 255, 3) := by decide +kernel
theorem d_Bk_nameOf_11 : decode b_Bk_nameOf 11 = .ok (.iand, 1) := by decide +kernel
theorem d_Bk_nameOf_12 : decode b_Bk_nameOf 12 = .ok (.aload_n 0, 1) := by decide +kernel
theorem d_Bk_nameOf_13 : decode b_Bk_nameOf 13 = .ok (.getfield 31, 3) := by decide +kernel
theorem d_Bk_nameOf_16 : decode b_Bk_nameOf 16 = .ok (.iload_n 1, 1) := by decide +kernel
theorem d_Bk_nameOf_17 : decode b_Bk_nameOf 17 = .ok (.aaload, 1) := by decide +kernel
theorem d_Bk_nameOf_18 : decode b_Bk_nameOf 18 = .ok (.iconst 1, 1) := by decide +kernel
theorem d_Bk_nameOf_19 : decode b_Bk_nameOf 19 = .ok (.baload, 1) := by decide +kernel
theorem d_Bk_nameOf_20 : decode b_Bk_nameOf 20 = .ok (.sipush 255, 3) := by decide +kernel
theorem d_Bk_nameOf_23 : decode b_Bk_nameOf 23 = .ok (.iand, 1) := by decide +kernel
theorem d_Bk_nameOf_24 : decode b_Bk_nameOf 24 = .ok (.bipush 8, 2) := by decide +kernel
theorem d_Bk_nameOf_26 : decode b_Bk_nameOf 26 = .ok (.ishl, 1) := by decide +kernel
theorem d_Bk_nameOf_27 : decode b_Bk_nameOf 27 = .ok (.ior, 1) := by decide +kernel
theorem d_Bk_nameOf_28 : decode b_Bk_nameOf 28 = .ok (.ireturn, 1) := by decide +kernel
theorem d_Bk_entry_0 : decode b_Bk_entry 0 = .ok (.aload_n 0, 1) := by decide +kernel
theorem d_Bk_entry_1 : decode b_Bk_entry 1 = .ok (.getfield 96, 3) := by decide +kernel
theorem d_Bk_entry_4 : decode b_Bk_entry 4 = .ok (.ifCond .eq 15, 3) := by decide +kernel
theorem d_Bk_entry_7 : decode b_Bk_entry 7 = .ok (.iload_n 1, 1) := by decide +kernel
theorem d_Bk_entry_8 : decode b_Bk_entry 8 = .ok (.ifCond .lt 11, 3) := by decide +kernel
theorem d_Bk_entry_11 : decode b_Bk_entry 11 = .ok (.iload_n 1, 1) := by decide +kernel
theorem d_Bk_entry_12 : decode b_Bk_entry 12 = .ok (.aload_n 0, 1) := by decide +kernel
theorem d_Bk_entry_13 : decode b_Bk_entry 13 = .ok (.getfield 67, 3) := by decide +kernel
theorem d_Bk_entry_16 : decode b_Bk_entry 16 = .ok (.if_icmp .lt 5, 3) := by decide +kernel
theorem d_Bk_entry_19 : decode b_Bk_entry 19 = .ok (.iconst (-1), 1) := by decide +kernel
theorem d_Bk_entry_20 : decode b_Bk_entry 20 = .ok (.ireturn, 1) := by decide +kernel
theorem d_Bk_entry_21 : decode b_Bk_entry 21 = .ok (.iload_n 2, 1) := by decide +kernel
theorem d_Bk_entry_22 : decode b_Bk_entry 22 = .ok (.tableswitch 55 0 2 #[26, 37, 44], 26) := by decide +kernel
theorem d_Bk_entry_48 : decode b_Bk_entry 48 = .ok (.aload_n 0, 1) := by decide +kernel
theorem d_Bk_entry_49 : decode b_Bk_entry 49 = .ok (.aload_n 0, 1) := by decide +kernel
theorem d_Bk_entry_50 : decode b_Bk_entry 50 = .ok (.getfield 16, 3) := by decide +kernel
theorem d_Bk_entry_53 : decode b_Bk_entry 53 = .ok (.iload_n 1, 1) := by decide +kernel
theorem d_Bk_entry_54 : decode b_Bk_entry 54 = .ok (.iaload, 1) := by decide +kernel
theorem d_Bk_entry_55 : decode b_Bk_entry 55 = .ok (.invokevirtual 113, 3) := by decide +kernel
theorem d_Bk_entry_58 : decode b_Bk_entry 58 = .ok (.ireturn, 1) := by decide +kernel
theorem d_Bk_entry_59 : decode b_Bk_entry 59 = .ok (.aload_n 0, 1) := by decide +kernel
theorem d_Bk_entry_60 : decode b_Bk_entry 60 = .ok (.getfield 16, 3) := by decide +kernel
theorem d_Bk_entry_63 : decode b_Bk_entry 63 = .ok (.iload_n 1, 1) := by decide +kernel
theorem d_Bk_entry_64 : decode b_Bk_entry 64 = .ok (.iaload, 1) := by decide +kernel
theorem d_Bk_entry_65 : decode b_Bk_entry 65 = .ok (.ireturn, 1) := by decide +kernel
theorem d_Bk_entry_66 : decode b_Bk_entry 66 = .ok (.aload_n 0, 1) := by decide +kernel
theorem d_Bk_entry_67 : decode b_Bk_entry 67 = .ok (.aload_n 0, 1) := by decide +kernel
theorem d_Bk_entry_68 : decode b_Bk_entry 68 = .ok (.getfield 16, 3) := by decide +kernel
theorem d_Bk_entry_71 : decode b_Bk_entry 71 = .ok (.iload_n 1, 1) := by decide +kernel
theorem d_Bk_entry_72 : decode b_Bk_entry 72 = .ok (.iaload, 1) := by decide +kernel
theorem d_Bk_entry_73 : decode b_Bk_entry 73 = .ok (.invokevirtual 77, 3) := by decide +kernel
theorem d_Bk_entry_76 : decode b_Bk_entry 76 = .ok (.ireturn, 1) := by decide +kernel
theorem d_Bk_entry_77 : decode b_Bk_entry 77 = .ok (.iconst (-1), 1) := by decide +kernel
theorem d_Bk_entry_78 : decode b_Bk_entry 78 = .ok (.ireturn, 1) := by decide +kernel
theorem d_Bk_drop_0 : decode b_Bk_drop 0 = .ok (.aload_n 0, 1) := by decide +kernel
theorem d_Bk_drop_1 : decode b_Bk_drop 1 = .ok (.getfield 96, 3) := by decide +kernel
theorem d_Bk_drop_4 : decode b_Bk_drop 4 = .ok (.ifCond .eq 15, 3) := by decide +kernel
theorem d_Bk_drop_7 : decode b_Bk_drop 7 = .ok (.iload_n 1, 1) := by decide +kernel
theorem d_Bk_drop_8 : decode b_Bk_drop 8 = .ok (.ifCond .lt 11, 3) := by decide +kernel
theorem d_Bk_drop_11 : decode b_Bk_drop 11 = .ok (.iload_n 1, 1) := by decide +kernel
theorem d_Bk_drop_12 : decode b_Bk_drop 12 = .ok (.aload_n 0, 1) := by decide +kernel
theorem d_Bk_drop_13 : decode b_Bk_drop 13 = .ok (.getfield 67, 3) := by decide +kernel
theorem d_Bk_drop_16 : decode b_Bk_drop 16 = .ok (.if_icmp .lt 5, 3) := by decide +kernel
theorem d_Bk_drop_19 : decode b_Bk_drop 19 = .ok (.iconst 0, 1) := by decide +kernel
theorem d_Bk_drop_20 : decode b_Bk_drop 20 = .ok (.ireturn, 1) := by decide +kernel
theorem d_Bk_drop_21 : decode b_Bk_drop 21 = .ok (.aload_n 0, 1) := by decide +kernel
theorem d_Bk_drop_22 : decode b_Bk_drop 22 = .ok (.iload_n 1, 1) := by decide +kernel
theorem d_Bk_drop_23 : decode b_Bk_drop 23 = .ok (.invokevirtual 43, 3) := by decide +kernel
theorem d_Bk_drop_26 : decode b_Bk_drop 26 = .ok (.aload_n 0, 1) := by decide +kernel
theorem d_Bk_drop_27 : decode b_Bk_drop 27 = .ok (.dup, 1) := by decide +kernel
theorem d_Bk_drop_28 : decode b_Bk_drop 28 = .ok (.getfield 67, 3) := by decide +kernel
theorem d_Bk_drop_31 : decode b_Bk_drop 31 = .ok (.iconst 1, 1) := by decide +kernel
theorem d_Bk_drop_32 : decode b_Bk_drop 32 = .ok (.isub, 1) := by decide +kernel
theorem d_Bk_drop_33 : decode b_Bk_drop 33 = .ok (.putfield 67, 3) := by decide +kernel
theorem d_Bk_drop_36 : decode b_Bk_drop 36 = .ok (.iload_n 1, 1) := by decide +kernel
theorem d_Bk_drop_37 : decode b_Bk_drop 37 = .ok (.istore_n 2, 1) := by decide +kernel
theorem d_Bk_drop_38 : decode b_Bk_drop 38 = .ok (.iload_n 2, 1) := by decide +kernel
theorem d_Bk_drop_39 : decode b_Bk_drop 39 = .ok (.aload_n 0, 1) := by decide +kernel
theorem d_Bk_drop_40 : decode b_Bk_drop 40 = .ok (.getfield 67, 3) := by decide +kernel
theorem d_Bk_drop_43 : decode b_Bk_drop 43 = .ok (.if_icmp .ge 23, 3) := by decide +kernel
theorem d_Bk_drop_46 : decode b_Bk_drop 46 = .ok (.aload_n 0, 1) := by decide +kernel
theorem d_Bk_drop_47 : decode b_Bk_drop 47 = .ok (.getfield 16, 3) := by decide +kernel
theorem d_Bk_drop_50 : decode b_Bk_drop 50 = .ok (.iload_n 2, 1) := by decide +kernel
theorem d_Bk_drop_51 : decode b_Bk_drop 51 = .ok (.aload_n 0, 1) := by decide +kernel
theorem d_Bk_drop_52 : decode b_Bk_drop 52 = .ok (.getfield 16, 3) := by decide +kernel
theorem d_Bk_drop_55 : decode b_Bk_drop 55 = .ok (.iload_n 2, 1) := by decide +kernel
theorem d_Bk_drop_56 : decode b_Bk_drop 56 = .ok (.iconst 1, 1) := by decide +kernel
theorem d_Bk_drop_57 : decode b_Bk_drop 57 = .ok (.iadd, 1) := by decide +kernel
theorem d_Bk_drop_58 : decode b_Bk_drop 58 = .ok (.iaload, 1) := by decide +kernel
theorem d_Bk_drop_59 : decode b_Bk_drop 59 = .ok (.iastore, 1) := by decide +kernel
theorem d_Bk_drop_60 : decode b_Bk_drop 60 = .ok (.iinc 2 1, 3) := by decide +kernel
theorem d_Bk_drop_63 : decode b_Bk_drop 63 = .ok (.goto (-25), 3) := by decide +kernel
theorem d_Bk_drop_66 : decode b_Bk_drop 66 = .ok (.aload_n 0, 1) := by decide +kernel
theorem d_Bk_drop_67 : decode b_Bk_drop 67 = .ok (.getfield 39, 3) := by decide +kernel
theorem d_Bk_drop_70 : decode b_Bk_drop 70 = .ok (.iconst 0, 1) := by decide +kernel
theorem d_Bk_drop_71 : decode b_Bk_drop 71 = .ok (.putfield 107, 3) := by decide +kernel
theorem d_Bk_drop_74 : decode b_Bk_drop 74 = .ok (.aload_n 0, 1) := by decide +kernel
theorem d_Bk_drop_75 : decode b_Bk_drop 75 = .ok (.invokevirtual 110, 3) := by decide +kernel
theorem d_Bk_drop_78 : decode b_Bk_drop 78 = .ok (.iconst 1, 1) := by decide +kernel
theorem d_Bk_drop_79 : decode b_Bk_drop 79 = .ok (.ireturn, 1) := by decide +kernel
theorem d_Bk_crash_0 : decode b_Bk_crash 0 = .ok (.aload_n 0, 1) := by decide +kernel
theorem d_Bk_crash_1 : decode b_Bk_crash 1 = .ok (.getfield 96, 3) := by decide +kernel
theorem d_Bk_crash_4 : decode b_Bk_crash 4 = .ok (.ifCond .eq 28, 3) := by decide +kernel
theorem d_Bk_crash_7 : decode b_Bk_crash 7 = .ok (.aload_n 0, 1) := by decide +kernel
theorem d_Bk_crash_8 : decode b_Bk_crash 8 = .ok (.getfield 39, 3) := by decide +kernel
theorem d_Bk_crash_11 : decode b_Bk_crash 11 = .ok (.getfield 107, 3) := by decide +kernel
theorem d_Bk_crash_14 : decode b_Bk_crash 14 = .ok (.ifCond .eq 18, 3) := by decide +kernel
theorem d_Bk_crash_17 : decode b_Bk_crash 17 = .ok (.iload_n 1, 1) := by decide +kernel
theorem d_Bk_crash_18 : decode b_Bk_crash 18 = .ok (.ifCond .lt 14, 3) := by decide +kernel
theorem d_Bk_crash_21 : decode b_Bk_crash 21 = .ok (.iload_n 1, 1) := by decide +kernel
theorem d_Bk_crash_22 : decode b_Bk_crash 22 = .ok (.aload_n 0, 1) := by decide +kernel
theorem d_Bk_crash_23 : decode b_Bk_crash 23 = .ok (.getfield 39, 3) := by decide +kernel
theorem d_Bk_crash_26 : decode b_Bk_crash 26 = .ok (.getfield 107, 3) := by decide +kernel
theorem d_Bk_crash_29 : decode b_Bk_crash 29 = .ok (.if_icmp .le 5, 3) := by decide +kernel
theorem d_Bk_crash_32 : decode b_Bk_crash 32 = .ok (.iconst 0, 1) := by decide +kernel
theorem d_Bk_crash_33 : decode b_Bk_crash 33 = .ok (.ireturn, 1) := by decide +kernel
theorem d_Bk_crash_34 : decode b_Bk_crash 34 = .ok (.aload_n 0, 1) := by decide +kernel
theorem d_Bk_crash_35 : decode b_Bk_crash 35 = .ok (.getfield 39, 3) := by decide +kernel
theorem d_Bk_crash_38 : decode b_Bk_crash 38 = .ok (.iload_n 1, 1) := by decide +kernel
theorem d_Bk_crash_39 : decode b_Bk_crash 39 = .ok (.invokevirtual 116, 3) := by decide +kernel
theorem d_Bk_crash_42 : decode b_Bk_crash 42 = .ok (.aload_n 0, 1) := by decide +kernel
theorem d_Bk_crash_43 : decode b_Bk_crash 43 = .ok (.iconst 0, 1) := by decide +kernel
theorem d_Bk_crash_44 : decode b_Bk_crash 44 = .ok (.putfield 96, 3) := by decide +kernel
theorem d_Bk_crash_47 : decode b_Bk_crash 47 = .ok (.iconst 1, 1) := by decide +kernel
theorem d_Bk_crash_48 : decode b_Bk_crash 48 = .ok (.ireturn, 1) := by decide +kernel
theorem d_Pn_takeBack_0 : decode b_Pn_takeBack 0 = .ok (.aload_n 0, 1) := by decide +kernel
theorem d_Pn_takeBack_1 : decode b_Pn_takeBack 1 = .ok (.getfield 26, 3) := by decide +kernel
theorem d_Pn_takeBack_4 : decode b_Pn_takeBack 4 = .ok (.iconst 1, 1) := by decide +kernel
theorem d_Pn_takeBack_5 : decode b_Pn_takeBack 5 = .ok (.isub, 1) := by decide +kernel
theorem d_Pn_takeBack_6 : decode b_Pn_takeBack 6 = .ok (.istore_n 2, 1) := by decide +kernel
theorem d_Pn_takeBack_7 : decode b_Pn_takeBack 7 = .ok (.iload_n 2, 1) := by decide +kernel
theorem d_Pn_takeBack_8 : decode b_Pn_takeBack 8 = .ok (.iload_n 1, 1) := by decide +kernel
theorem d_Pn_takeBack_9 : decode b_Pn_takeBack 9 = .ok (.if_icmp .lt 33, 3) := by decide +kernel
theorem d_Pn_takeBack_12 : decode b_Pn_takeBack 12 = .ok (.aload_n 0, 1) := by decide +kernel
theorem d_Pn_takeBack_13 : decode b_Pn_takeBack 13 = .ok (.getfield 22, 3) := by decide +kernel
theorem d_Pn_takeBack_16 : decode b_Pn_takeBack 16 = .ok (.aload_n 0, 1) := by decide +kernel
theorem d_Pn_takeBack_17 : decode b_Pn_takeBack 17 = .ok (.getfield 9, 3) := by decide +kernel
theorem d_Pn_takeBack_20 : decode b_Pn_takeBack 20 = .ok (.iload_n 2, 1) := by decide +kernel
theorem d_Pn_takeBack_21 : decode b_Pn_takeBack 21 = .ok (.iaload, 1) := by decide +kernel
theorem d_Pn_takeBack_22 : decode b_Pn_takeBack 22 = .ok (.aaload, 1) := by decide +kernel
theorem d_Pn_takeBack_23 : decode b_Pn_takeBack 23 = .ok (.aload_n 0, 1) := by decide +kernel
theorem d_Pn_takeBack_24 : decode b_Pn_takeBack 24 = .ok (.getfield 15, 3) := by decide +kernel
theorem d_Pn_takeBack_27 : decode b_Pn_takeBack 27 = .ok (.iload_n 2, 1) := by decide +kernel
theorem d_Pn_takeBack_28 : decode b_Pn_takeBack 28 = .ok (.iaload, 1) := by decide +kernel
theorem d_Pn_takeBack_29 : decode b_Pn_takeBack 29 = .ok (.aload_n 0, 1) := by decide +kernel
theorem d_Pn_takeBack_30 : decode b_Pn_takeBack 30 = .ok (.getfield 18, 3) := by decide +kernel
theorem d_Pn_takeBack_33 : decode b_Pn_takeBack 33 = .ok (.iload_n 2, 1) := by decide +kernel
theorem d_Pn_takeBack_34 : decode b_Pn_takeBack 34 = .ok (.baload, 1) := by decide +kernel
theorem d_Pn_takeBack_35 : decode b_Pn_takeBack 35 = .ok (.bastore, 1) := by decide +kernel
theorem d_Pn_takeBack_36 : decode b_Pn_takeBack 36 = .ok (.iinc 2 (-1), 3) := by decide +kernel
theorem d_Pn_takeBack_39 : decode b_Pn_takeBack 39 = .ok (.goto (-32), 3) := by decide +kernel
theorem d_Pn_takeBack_42 : decode b_Pn_takeBack 42 = .ok (.aload_n 0, 1) := by decide +kernel
theorem d_Pn_takeBack_43 : decode b_Pn_takeBack 43 = .ok (.iconst 0, 1) := by decide +kernel
theorem d_Pn_takeBack_44 : decode b_Pn_takeBack 44 = .ok (.putfield 26, 3) := by decide +kernel
theorem d_Pn_takeBack_47 : decode b_Pn_takeBack 47 = .ok (.return_, 1) := by decide +kernel
theorem d_Bk_poke_0 : decode b_Bk_poke 0 = .ok (.iload_n 1, 1) := by decide +kernel
theorem d_Bk_poke_1 : decode b_Bk_poke 1 = .ok (.ifCond .lt 34, 3) := by decide +kernel
theorem d_Bk_poke_4 : decode b_Bk_poke 4 = .ok (.iload_n 1, 1) := by decide +kernel
theorem d_Bk_poke_5 : decode b_Bk_poke 5 = .ok (.aload_n 0, 1) := by decide +kernel
theorem d_Bk_poke_6 : decode b_Bk_poke 6 = .ok (.getfield 31, 3) := by decide +kernel
theorem d_Bk_poke_9 : decode b_Bk_poke 9 = .ok (.arraylength, 1) := by decide +kernel
theorem d_Bk_poke_10 : decode b_Bk_poke 10 = .ok (.if_icmp .ge 25, 3) := by decide +kernel
theorem d_Bk_poke_13 : decode b_Bk_poke 13 = .ok (.iload_n 2, 1) := by decide +kernel
theorem d_Bk_poke_14 : decode b_Bk_poke 14 = .ok (.ifCond .lt 21, 3) := by decide +kernel
theorem d_Bk_poke_17 : decode b_Bk_poke 17 = .ok (.iload_n 2, 1) := by decide +kernel
theorem d_Bk_poke_18 : decode b_Bk_poke 18 = .ok (.bipush 64, 2) := by decide +kernel
theorem d_Bk_poke_20 : decode b_Bk_poke 20 = .ok (.if_icmp .ge 15, 3) := by decide +kernel
theorem d_Bk_poke_23 : decode b_Bk_poke 23 = .ok (.iload_n 3, 1) := by decide +kernel
theorem d_Bk_poke_24 : decode b_Bk_poke 24 = .ok (.iconst 1, 1) := by decide +kernel
theorem d_Bk_poke_25 : decode b_Bk_poke 25 = .ok (.if_icmp .lt 10, 3) := by decide +kernel
theorem d_Bk_poke_28 : decode b_Bk_poke 28 = .ok (.iload_n 3, 1) := by decide +kernel
theorem d_Bk_poke_29 : decode b_Bk_poke 29 = .ok (.sipush 255, 3) := by decide +kernel
theorem d_Bk_poke_32 : decode b_Bk_poke 32 = .ok (.if_icmp .le 5, 3) := by decide +kernel
theorem d_Bk_poke_35 : decode b_Bk_poke 35 = .ok (.iconst 0, 1) := by decide +kernel
theorem d_Bk_poke_36 : decode b_Bk_poke 36 = .ok (.ireturn, 1) := by decide +kernel
theorem d_Bk_poke_37 : decode b_Bk_poke 37 = .ok (.aload_n 0, 1) := by decide +kernel
theorem d_Bk_poke_38 : decode b_Bk_poke 38 = .ok (.getfield 31, 3) := by decide +kernel
theorem d_Bk_poke_41 : decode b_Bk_poke 41 = .ok (.iload_n 1, 1) := by decide +kernel
theorem d_Bk_poke_42 : decode b_Bk_poke 42 = .ok (.aaload, 1) := by decide +kernel
theorem d_Bk_poke_43 : decode b_Bk_poke 43 = .ok (.iload_n 2, 1) := by decide +kernel
theorem d_Bk_poke_44 : decode b_Bk_poke 44 = .ok (.dup2, 1) := by decide +kernel
theorem d_Bk_poke_45 : decode b_Bk_poke 45 = .ok (.baload, 1) := by decide +kernel
theorem d_Bk_poke_46 : decode b_Bk_poke 46 = .ok (.iload_n 3, 1) := by decide +kernel
theorem d_Bk_poke_47 : decode b_Bk_poke 47 = .ok (.i2b, 1) := by decide +kernel
theorem d_Bk_poke_48 : decode b_Bk_poke 48 = .ok (.ixor, 1) := by decide +kernel
theorem d_Bk_poke_49 : decode b_Bk_poke 49 = .ok (.i2b, 1) := by decide +kernel
theorem d_Bk_poke_50 : decode b_Bk_poke 50 = .ok (.bastore, 1) := by decide +kernel
theorem d_Bk_poke_51 : decode b_Bk_poke 51 = .ok (.iconst 1, 1) := by decide +kernel
theorem d_Bk_poke_52 : decode b_Bk_poke 52 = .ok (.ireturn, 1) := by decide +kernel
theorem d_Bk_badAt_0 : decode b_Bk_badAt 0 = .ok (.aload_n 0, 1) := by decide +kernel
theorem d_Bk_badAt_1 : decode b_Bk_badAt 1 = .ok (.getfield 96, 3) := by decide +kernel
theorem d_Bk_badAt_4 : decode b_Bk_badAt 4 = .ok (.ifCond .ne 5, 3) := by decide +kernel
theorem d_Bk_badAt_7 : decode b_Bk_badAt 7 = .ok (.iconst (-1), 1) := by decide +kernel
theorem d_Bk_badAt_8 : decode b_Bk_badAt 8 = .ok (.ireturn, 1) := by decide +kernel
theorem d_Bk_badAt_9 : decode b_Bk_badAt 9 = .ok (.aload_n 0, 1) := by decide +kernel
theorem d_Bk_badAt_10 : decode b_Bk_badAt 10 = .ok (.aload_n 0, 1) := by decide +kernel
theorem d_Bk_badAt_11 : decode b_Bk_badAt 11 = .ok (.getfield 85, 3) := by decide +kernel
theorem d_Bk_badAt_14 : decode b_Bk_badAt 14 = .ok (.invokevirtual 119, 3) := by decide +kernel
theorem d_Bk_badAt_17 : decode b_Bk_badAt 17 = .ok (.ifCond .ne 8, 3) := by decide +kernel
theorem d_Bk_badAt_20 : decode b_Bk_badAt 20 = .ok (.aload_n 0, 1) := by decide +kernel
theorem d_Bk_badAt_21 : decode b_Bk_badAt 21 = .ok (.getfield 85, 3) := by decide +kernel
theorem d_Bk_badAt_24 : decode b_Bk_badAt 24 = .ok (.ireturn, 1) := by decide +kernel
theorem d_Bk_badAt_25 : decode b_Bk_badAt 25 = .ok (.iconst 3, 1) := by decide +kernel
theorem d_Bk_badAt_26 : decode b_Bk_badAt 26 = .ok (.istore_n 1, 1) := by decide +kernel
theorem d_Bk_badAt_27 : decode b_Bk_badAt 27 = .ok (.iload_n 1, 1) := by decide +kernel
theorem d_Bk_badAt_28 : decode b_Bk_badAt 28 = .ok (.aload_n 0, 1) := by decide +kernel
theorem d_Bk_badAt_29 : decode b_Bk_badAt 29 = .ok (.getfield 31, 3) := by decide +kernel
theorem d_Bk_badAt_32 : decode b_Bk_badAt 32 = .ok (.arraylength, 1) := by decide +kernel
theorem d_Bk_badAt_33 : decode b_Bk_badAt 33 = .ok (.if_icmp .ge 27, 3) := by decide +kernel
theorem d_Bk_badAt_36 : decode b_Bk_badAt 36 = .ok (.aload_n 0, 1) := by decide +kernel
theorem d_Bk_badAt_37 : decode b_Bk_badAt 37 = .ok (.iload_n 1, 1) := by decide +kernel
theorem d_Bk_badAt_38 : decode b_Bk_badAt 38 = .ok (.invokevirtual 81, 3) := by decide +kernel
theorem d_Bk_badAt_41 : decode b_Bk_badAt 41 = .ok (.ifCond .eq 13, 3) := by decide +kernel
theorem d_Bk_badAt_44 : decode b_Bk_badAt 44 = .ok (.aload_n 0, 1) := by decide +kernel
theorem d_Bk_badAt_45 : decode b_Bk_badAt 45 = .ok (.iload_n 1, 1) := by decide +kernel
theorem d_Bk_badAt_46 : decode b_Bk_badAt 46 = .ok (.invokevirtual 119, 3) := by decide +kernel
theorem d_Bk_badAt_49 : decode b_Bk_badAt 49 = .ok (.ifCond .ne 5, 3) := by decide +kernel
theorem d_Bk_badAt_52 : decode b_Bk_badAt 52 = .ok (.iload_n 1, 1) := by decide +kernel
theorem d_Bk_badAt_53 : decode b_Bk_badAt 53 = .ok (.ireturn, 1) := by decide +kernel
theorem d_Bk_badAt_54 : decode b_Bk_badAt 54 = .ok (.iinc 1 1, 3) := by decide +kernel
theorem d_Bk_badAt_57 : decode b_Bk_badAt 57 = .ok (.goto (-30), 3) := by decide +kernel
theorem d_Bk_badAt_60 : decode b_Bk_badAt 60 = .ok (.iconst (-1), 1) := by decide +kernel
theorem d_Bk_badAt_61 : decode b_Bk_badAt 61 = .ok (.ireturn, 1) := by decide +kernel
theorem d_Bk_free_0 : decode b_Bk_free 0 = .ok (.aload_n 0, 1) := by decide +kernel
theorem d_Bk_free_1 : decode b_Bk_free 1 = .ok (.getfield 96, 3) := by decide +kernel
theorem d_Bk_free_4 : decode b_Bk_free 4 = .ok (.ifCond .ne 5, 3) := by decide +kernel
theorem d_Bk_free_7 : decode b_Bk_free 7 = .ok (.iconst (-1), 1) := by decide +kernel
theorem d_Bk_free_8 : decode b_Bk_free 8 = .ok (.ireturn, 1) := by decide +kernel
theorem d_Bk_free_9 : decode b_Bk_free 9 = .ok (.aload_n 0, 1) := by decide +kernel
theorem d_Bk_free_10 : decode b_Bk_free 10 = .ok (.getfield 31, 3) := by decide +kernel
theorem d_Bk_free_13 : decode b_Bk_free 13 = .ok (.arraylength, 1) := by decide +kernel
theorem d_Bk_free_14 : decode b_Bk_free 14 = .ok (.iconst 3, 1) := by decide +kernel
theorem d_Bk_free_15 : decode b_Bk_free 15 = .ok (.isub, 1) := by decide +kernel
theorem d_Bk_free_16 : decode b_Bk_free 16 = .ok (.aload_n 0, 1) := by decide +kernel
theorem d_Bk_free_17 : decode b_Bk_free 17 = .ok (.getfield 67, 3) := by decide +kernel
theorem d_Bk_free_20 : decode b_Bk_free 20 = .ok (.isub, 1) := by decide +kernel
theorem d_Bk_free_21 : decode b_Bk_free 21 = .ok (.ireturn, 1) := by decide +kernel
theorem d_Bk_root_0 : decode b_Bk_root 0 = .ok (.aload_n 0, 1) := by decide +kernel
theorem d_Bk_root_1 : decode b_Bk_root 1 = .ok (.getfield 96, 3) := by decide +kernel
theorem d_Bk_root_4 : decode b_Bk_root 4 = .ok (.ifCond .eq 10, 3) := by decide +kernel
theorem d_Bk_root_7 : decode b_Bk_root 7 = .ok (.aload_n 0, 1) := by decide +kernel
theorem d_Bk_root_8 : decode b_Bk_root 8 = .ok (.getfield 85, 3) := by decide +kernel
theorem d_Bk_root_11 : decode b_Bk_root 11 = .ok (.goto 4, 3) := by decide +kernel
theorem d_Bk_root_14 : decode b_Bk_root 14 = .ok (.iconst (-1), 1) := by decide +kernel
theorem d_Bk_root_15 : decode b_Bk_root 15 = .ok (.ireturn, 1) := by decide +kernel
theorem d_Bk_byteAt_0 : decode b_Bk_byteAt 0 = .ok (.aload_n 0, 1) := by decide +kernel
theorem d_Bk_byteAt_1 : decode b_Bk_byteAt 1 = .ok (.getfield 31, 3) := by decide +kernel
theorem d_Bk_byteAt_4 : decode b_Bk_byteAt 4 = .ok (.iload_n 1, 1) := by decide +kernel
theorem d_Bk_byteAt_5 : decode b_Bk_byteAt 5 = .ok (.aaload, 1) := by decide +kernel
theorem d_Bk_byteAt_6 : decode b_Bk_byteAt 6 = .ok (.iload_n 2, 1) := by decide +kernel
theorem d_Bk_byteAt_7 : decode b_Bk_byteAt 7 = .ok (.baload, 1) := by decide +kernel
theorem d_Bk_byteAt_8 : decode b_Bk_byteAt 8 = .ok (.sipush 255, 3) := by decide +kernel
theorem d_Bk_byteAt_11 : decode b_Bk_byteAt 11 = .ok (.iand, 1) := by decide +kernel
theorem d_Bk_byteAt_12 : decode b_Bk_byteAt 12 = .ok (.ireturn, 1) := by decide +kernel
end
section
-- decode rows (by gen/names.py)
theorem d_Md_init_0 : decode b_Md_init 0 = .ok (.aload_n 0, 1) := by decide +kernel
theorem d_Md_init_1 : decode b_Md_init 1 = .ok (.invokespecial 1, 3) := by decide +kernel
theorem d_Md_init_4 : decode b_Md_init 4 = .ok (.aload_n 0, 1) := by decide +kernel
theorem d_Md_init_5 : decode b_Md_init 5 = .ok (.sipush 4096, 3) := by decide +kernel
theorem d_Md_init_8 : decode b_Md_init 8 = .ok (.newarray .int, 2) := by decide +kernel
theorem d_Md_init_10 : decode b_Md_init 10 = .ok (.putfield 7, 3) := by decide +kernel
theorem d_Md_init_13 : decode b_Md_init 13 = .ok (.aload_n 0, 1) := by decide +kernel
theorem d_Md_init_14 : decode b_Md_init 14 = .ok (.bipush 40, 2) := by decide +kernel
theorem d_Md_init_16 : decode b_Md_init 16 = .ok (.newarray .int, 2) := by decide +kernel
theorem d_Md_init_18 : decode b_Md_init 18 = .ok (.putfield 13, 3) := by decide +kernel
theorem d_Md_init_21 : decode b_Md_init 21 = .ok (.aload_n 0, 1) := by decide +kernel
theorem d_Md_init_22 : decode b_Md_init 22 = .ok (.bipush 48, 2) := by decide +kernel
theorem d_Md_init_24 : decode b_Md_init 24 = .ok (.newarray .int, 2) := by decide +kernel
theorem d_Md_init_26 : decode b_Md_init 26 = .ok (.putfield 16, 3) := by decide +kernel
theorem d_Md_init_29 : decode b_Md_init 29 = .ok (.aload_n 0, 1) := by decide +kernel
theorem d_Md_init_30 : decode b_Md_init 30 = .ok (.sipush 129, 3) := by decide +kernel
theorem d_Md_init_33 : decode b_Md_init 33 = .ok (.newarray .int, 2) := by decide +kernel
theorem d_Md_init_35 : decode b_Md_init 35 = .ok (.putfield 19, 3) := by decide +kernel
theorem d_Md_init_38 : decode b_Md_init 38 = .ok (.aload_n 0, 1) := by decide +kernel
theorem d_Md_init_39 : decode b_Md_init 39 = .ok (.sipush 129, 3) := by decide +kernel
theorem d_Md_init_42 : decode b_Md_init 42 = .ok (.newarray .int, 2) := by decide +kernel
theorem d_Md_init_44 : decode b_Md_init 44 = .ok (.putfield 22, 3) := by decide +kernel
theorem d_Md_init_47 : decode b_Md_init 47 = .ok (.aload_n 0, 1) := by decide +kernel
theorem d_Md_init_48 : decode b_Md_init 48 = .ok (.iload_n 1, 1) := by decide +kernel
theorem d_Md_init_49 : decode b_Md_init 49 = .ok (.iconst 4, 1) := by decide +kernel
theorem d_Md_init_50 : decode b_Md_init 50 = .ok (.if_icmp .ge 7, 3) := by decide +kernel
theorem d_Md_init_53 : decode b_Md_init 53 = .ok (.iconst 4, 1) := by decide +kernel
theorem d_Md_init_54 : decode b_Md_init 54 = .ok (.goto 15, 3) := by decide +kernel
theorem d_Md_init_57 : decode b_Md_init 57 = .ok (.iload_n 1, 1) := by decide +kernel
theorem d_Md_init_58 : decode b_Md_init 58 = .ok (.bipush 64, 2) := by decide +kernel
theorem d_Md_init_60 : decode b_Md_init 60 = .ok (.if_icmp .le 8, 3) := by decide +kernel
theorem d_Md_init_63 : decode b_Md_init 63 = .ok (.bipush 64, 2) := by decide +kernel
theorem d_Md_init_65 : decode b_Md_init 65 = .ok (.goto 4, 3) := by decide +kernel
theorem d_Md_init_68 : decode b_Md_init 68 = .ok (.iload_n 1, 1) := by decide +kernel
theorem d_Md_init_69 : decode b_Md_init 69 = .ok (.putfield 25, 3) := by decide +kernel
theorem d_Md_init_72 : decode b_Md_init 72 = .ok (.aload_n 0, 1) := by decide +kernel
theorem d_Md_init_73 : decode b_Md_init 73 = .ok (.iconst 1, 1) := by decide +kernel
theorem d_Md_init_74 : decode b_Md_init 74 = .ok (.putfield 29, 3) := by decide +kernel
theorem d_Md_init_77 : decode b_Md_init 77 = .ok (.aload_n 0, 1) := by decide +kernel
theorem d_Md_init_78 : decode b_Md_init 78 = .ok (.iconst 1, 1) := by decide +kernel
theorem d_Md_init_79 : decode b_Md_init 79 = .ok (.putfield 32, 3) := by decide +kernel
theorem d_Md_init_82 : decode b_Md_init 82 = .ok (.aload_n 0, 1) := by decide +kernel
theorem d_Md_init_83 : decode b_Md_init 83 = .ok (.iconst 1, 1) := by decide +kernel
theorem d_Md_init_84 : decode b_Md_init 84 = .ok (.iconst (-1), 1) := by decide +kernel
theorem d_Md_init_85 : decode b_Md_init 85 = .ok (.invokevirtual 36, 3) := by decide +kernel
theorem d_Md_init_88 : decode b_Md_init 88 = .ok (.aload_n 0, 1) := by decide +kernel
theorem d_Md_init_89 : decode b_Md_init 89 = .ok (.iconst 0, 1) := by decide +kernel
theorem d_Md_init_90 : decode b_Md_init 90 = .ok (.iconst 1, 1) := by decide +kernel
theorem d_Md_init_91 : decode b_Md_init 91 = .ok (.invokevirtual 40, 3) := by decide +kernel
theorem d_Md_init_94 : decode b_Md_init 94 = .ok (.aload_n 0, 1) := by decide +kernel
theorem d_Md_init_95 : decode b_Md_init 95 = .ok (.iconst 0, 1) := by decide +kernel
theorem d_Md_init_96 : decode b_Md_init 96 = .ok (.putfield 43, 3) := by decide +kernel
theorem d_Md_init_99 : decode b_Md_init 99 = .ok (.return_, 1) := by decide +kernel
theorem d_Md_writeRoot_0 : decode b_Md_writeRoot 0 = .ok (.iload_n 2, 1) := by decide +kernel
theorem d_Md_writeRoot_1 : decode b_Md_writeRoot 1 = .ok (.ifCond .ge 10, 3) := by decide +kernel
theorem d_Md_writeRoot_4 : decode b_Md_writeRoot 4 = .ok (.aload_n 0, 1) := by decide +kernel
theorem d_Md_writeRoot_5 : decode b_Md_writeRoot 5 = .ok (.getfield 54, 3) := by decide +kernel
theorem d_Md_writeRoot_8 : decode b_Md_writeRoot 8 = .ok (.goto 9, 3) := by decide +kernel
theorem d_Md_writeRoot_11 : decode b_Md_writeRoot 11 = .ok (.aload_n 0, 1) := by decide +kernel
theorem d_Md_writeRoot_12 : decode b_Md_writeRoot 12 = .ok (.getfield 54, 3) := by decide +kernel
theorem d_Md_writeRoot_15 : decode b_Md_writeRoot 15 = .ok (.iconst 1, 1) := by decide +kernel
theorem d_Md_writeRoot_16 : decode b_Md_writeRoot 16 = .ok (.isub, 1) := by decide +kernel
theorem d_Md_writeRoot_17 : decode b_Md_writeRoot 17 = .ok (.istore_n 3, 1) := by decide +kernel
theorem d_Md_writeRoot_18 : decode b_Md_writeRoot 18 = .ok (.aload_n 0, 1) := by decide +kernel
theorem d_Md_writeRoot_19 : decode b_Md_writeRoot 19 = .ok (.bipush 64, 2) := by decide +kernel
theorem d_Md_writeRoot_21 : decode b_Md_writeRoot 21 = .ok (.iload_n 1, 1) := by decide +kernel
theorem d_Md_writeRoot_22 : decode b_Md_writeRoot 22 = .ok (.imul, 1) := by decide +kernel
theorem d_Md_writeRoot_23 : decode b_Md_writeRoot 23 = .ok (.iload_n 3, 1) := by decide +kernel
theorem d_Md_writeRoot_24 : decode b_Md_writeRoot 24 = .ok (.invokevirtual 40, 3) := by decide +kernel
theorem d_Md_writeRoot_27 : decode b_Md_writeRoot 27 = .ok (.iconst 0, 1) := by decide +kernel
theorem d_Md_writeRoot_28 : decode b_Md_writeRoot 28 = .ok (.istore 4, 2) := by decide +kernel
theorem d_Md_writeRoot_30 : decode b_Md_writeRoot 30 = .ok (.iconst 1, 1) := by decide +kernel
theorem d_Md_writeRoot_31 : decode b_Md_writeRoot 31 = .ok (.istore 5, 2) := by decide +kernel
theorem d_Md_writeRoot_33 : decode b_Md_writeRoot 33 = .ok (.iload 5, 2) := by decide +kernel
theorem d_Md_writeRoot_35 : decode b_Md_writeRoot 35 = .ok (.bipush 60, 2) := by decide +kernel
theorem d_Md_writeRoot_37 : decode b_Md_writeRoot 37 = .ok (.if_icmp .ge 49, 3) := by decide +kernel
theorem d_Md_writeRoot_40 : decode b_Md_writeRoot 40 = .ok (.iload 4, 2) := by decide +kernel
theorem d_Md_writeRoot_42 : decode b_Md_writeRoot 42 = .ok (.iload_n 2, 1) := by decide +kernel
theorem d_Md_writeRoot_43 : decode b_Md_writeRoot 43 = .ok (.if_icmp .ne 6, 3) := by decide +kernel
theorem d_Md_writeRoot_46 : decode b_Md_writeRoot 46 = .ok (.iinc 4 1, 3) := by decide +kernel
theorem d_Md_writeRoot_49 : decode b_Md_writeRoot 49 = .ok (.aload_n 0, 1) := by decide +kernel
theorem d_Md_writeRoot_50 : decode b_Md_writeRoot 50 = .ok (.bipush 64, 2) := by decide +kernel
theorem d_Md_writeRoot_52 : decode b_Md_writeRoot 52 = .ok (.iload_n 1, 1) := by decide +kernel
theorem d_Md_writeRoot_53 : decode b_Md_writeRoot 53 = .ok (.imul, 1) := by decide +kernel
theorem d_Md_writeRoot_54 : decode b_Md_writeRoot 54 = .ok (.iload 5, 2) := by decide +kernel
theorem d_Md_writeRoot_56 : decode b_Md_writeRoot 56 = .ok (.iadd, 1) := by decide +kernel
theorem d_Md_writeRoot_57 : decode b_Md_writeRoot 57 = .ok (.iload 5, 2) := by decide +kernel
theorem d_Md_writeRoot_59 : decode b_Md_writeRoot 59 = .ok (.iload_n 3, 1) := by decide +kernel
theorem d_Md_writeRoot_60 : decode b_Md_writeRoot 60 = .ok (.if_icmp .gt 13, 3) := by decide +kernel
theorem d_Md_writeRoot_63 : decode b_Md_writeRoot 63 = .ok (.aload_n 0, 1) := by decide +kernel
theorem d_Md_writeRoot_64 : decode b_Md_writeRoot 64 = .ok (.getfield 13, 3) := by decide +kernel
theorem d_Md_writeRoot_67 : decode b_Md_writeRoot 67 = .ok (.iload 4, 2) := by decide +kernel
theorem d_Md_writeRoot_69 : decode b_Md_writeRoot 69 = .ok (.iaload, 1) := by decide +kernel
theorem d_Md_writeRoot_70 : decode b_Md_writeRoot 70 = .ok (.goto 4, 3) := by decide +kernel
theorem d_Md_writeRoot_73 : decode b_Md_writeRoot 73 = .ok (.iconst 0, 1) := by decide +kernel
theorem d_Md_writeRoot_74 : decode b_Md_writeRoot 74 = .ok (.invokevirtual 40, 3) := by decide +kernel
theorem d_Md_writeRoot_77 : decode b_Md_writeRoot 77 = .ok (.iinc 4 1, 3) := by decide +kernel
theorem d_Md_writeRoot_80 : decode b_Md_writeRoot 80 = .ok (.iinc 5 1, 3) := by decide +kernel
theorem d_Md_writeRoot_83 : decode b_Md_writeRoot 83 = .ok (.goto (-50), 3) := by decide +kernel
theorem d_Md_writeRoot_86 : decode b_Md_writeRoot 86 = .ok (.aload_n 0, 1) := by decide +kernel
theorem d_Md_writeRoot_87 : decode b_Md_writeRoot 87 = .ok (.iload_n 1, 1) := by decide +kernel
theorem d_Md_writeRoot_88 : decode b_Md_writeRoot 88 = .ok (.invokevirtual 57, 3) := by decide +kernel
theorem d_Md_writeRoot_91 : decode b_Md_writeRoot 91 = .ok (.return_, 1) := by decide +kernel
theorem d_Md_write_0 : decode b_Md_write 0 = .ok (.aload_n 0, 1) := by decide +kernel
theorem d_Md_write_1 : decode b_Md_write 1 = .ok (.getfield 19, 3) := by decide +kernel
theorem d_Md_write_4 : decode b_Md_write 4 = .ok (.aload_n 0, 1) := by decide +kernel
theorem d_Md_write_5 : decode b_Md_write 5 = .ok (.getfield 43, 3) := by decide +kernel
theorem d_Md_write_8 : decode b_Md_write 8 = .ok (.iload_n 1, 1) := by decide +kernel
theorem d_Md_write_9 : decode b_Md_write 9 = .ok (.iastore, 1) := by decide +kernel
theorem d_Md_write_10 : decode b_Md_write 10 = .ok (.aload_n 0, 1) := by decide +kernel
theorem d_Md_write_11 : decode b_Md_write 11 = .ok (.getfield 22, 3) := by decide +kernel
theorem d_Md_write_14 : decode b_Md_write 14 = .ok (.aload_n 0, 1) := by decide +kernel
theorem d_Md_write_15 : decode b_Md_write 15 = .ok (.getfield 43, 3) := by decide +kernel
theorem d_Md_write_18 : decode b_Md_write 18 = .ok (.aload_n 0, 1) := by decide +kernel
theorem d_Md_write_19 : decode b_Md_write 19 = .ok (.getfield 7, 3) := by decide +kernel
theorem d_Md_write_22 : decode b_Md_write 22 = .ok (.iload_n 1, 1) := by decide +kernel
theorem d_Md_write_23 : decode b_Md_write 23 = .ok (.iaload, 1) := by decide +kernel
theorem d_Md_write_24 : decode b_Md_write 24 = .ok (.iastore, 1) := by decide +kernel
theorem d_Md_write_25 : decode b_Md_write 25 = .ok (.aload_n 0, 1) := by decide +kernel
theorem d_Md_write_26 : decode b_Md_write 26 = .ok (.getfield 7, 3) := by decide +kernel
theorem d_Md_write_29 : decode b_Md_write 29 = .ok (.iload_n 1, 1) := by decide +kernel
theorem d_Md_write_30 : decode b_Md_write 30 = .ok (.iload_n 2, 1) := by decide +kernel
theorem d_Md_write_31 : decode b_Md_write 31 = .ok (.iastore, 1) := by decide +kernel
theorem d_Md_write_32 : decode b_Md_write 32 = .ok (.aload_n 0, 1) := by decide +kernel
theorem d_Md_write_33 : decode b_Md_write 33 = .ok (.dup, 1) := by decide +kernel
theorem d_Md_write_34 : decode b_Md_write 34 = .ok (.getfield 43, 3) := by decide +kernel
theorem d_Md_write_37 : decode b_Md_write 37 = .ok (.iconst 1, 1) := by decide +kernel
theorem d_Md_write_38 : decode b_Md_write 38 = .ok (.iadd, 1) := by decide +kernel
theorem d_Md_write_39 : decode b_Md_write 39 = .ok (.putfield 43, 3) := by decide +kernel
theorem d_Md_write_42 : decode b_Md_write 42 = .ok (.return_, 1) := by decide +kernel
theorem d_Md_writeSum_0 : decode b_Md_writeSum 0 = .ok (.aload_n 0, 1) := by decide +kernel
theorem d_Md_writeSum_1 : decode b_Md_writeSum 1 = .ok (.iload_n 1, 1) := by decide +kernel
theorem d_Md_writeSum_2 : decode b_Md_writeSum 2 = .ok (.invokevirtual 50, 3) := by decide +kernel
theorem d_Md_writeSum_5 : decode b_Md_writeSum 5 = .ok (.istore_n 2, 1) := by decide +kernel
theorem d_Md_writeSum_6 : decode b_Md_writeSum 6 = .ok (.iconst 0, 1) := by decide +kernel
theorem d_Md_writeSum_7 : decode b_Md_writeSum 7 = .ok (.istore_n 3, 1) := by decide +kernel
theorem d_Md_writeSum_8 : decode b_Md_writeSum 8 = .ok (.iload_n 3, 1) := by decide +kernel
theorem d_Md_writeSum_9 : decode b_Md_writeSum 9 = .ok (.iconst 4, 1) := by decide +kernel
theorem d_Md_writeSum_10 : decode b_Md_writeSum 10 = .ok (.if_icmp .ge 32, 3) := by decide +kernel
theorem d_Md_writeSum_13 : decode b_Md_writeSum 13 = .ok (.aload_n 0, 1) := by decide +kernel
theorem d_Md_writeSum_14 : decode b_Md_writeSum 14 = .ok (.bipush 64, 2) := by decide +kernel
theorem d_Md_writeSum_16 : decode b_Md_writeSum 16 = .ok (.iload_n 1, 1) := by decide +kernel
theorem d_Md_writeSum_17 : decode b_Md_writeSum 17 = .ok (.imul, 1) := by decide +kernel
theorem d_Md_writeSum_18 : decode b_Md_writeSum 18 = .ok (.bipush 60, 2) := by decide +kernel
theorem d_Md_writeSum_20 : decode b_Md_writeSum 20 = .ok (.iadd, 1) := by decide +kernel
theorem d_Md_writeSum_21 : decode b_Md_writeSum 21 = .ok (.iload_n 3, 1) := by decide +kernel
theorem d_Md_writeSum_22 : decode b_Md_writeSum 22 = .ok (.iadd, 1) := by decide +kernel
theorem d_Md_writeSum_23 : decode b_Md_writeSum 23 = .ok (.iload_n 2, 1) := by decide +kernel
theorem d_Md_writeSum_24 : decode b_Md_writeSum 24 = .ok (.bipush 8, 2) := by decide +kernel
theorem d_Md_writeSum_26 : decode b_Md_writeSum 26 = .ok (.iload_n 3, 1) := by decide +kernel
theorem d_Md_writeSum_27 : decode b_Md_writeSum 27 = .ok (.imul, 1) := by decide +kernel
theorem d_Md_writeSum_28 : decode b_Md_writeSum 28 = .ok (.iushr, 1) := by decide +kernel
theorem d_Md_writeSum_29 : decode b_Md_writeSum 29 = .ok (.sipush 255, 3) := by decide +kernel
theorem d_Md_writeSum_32 : decode b_Md_writeSum 32 = .ok (.iand, 1) := by decide +kernel
theorem d_Md_writeSum_33 : decode b_Md_writeSum 33 = .ok (.invokevirtual 40, 3) := by decide +kernel
theorem d_Md_writeSum_36 : decode b_Md_writeSum 36 = .ok (.iinc 3 1, 3) := by decide +kernel
theorem d_Md_writeSum_39 : decode b_Md_writeSum 39 = .ok (.goto (-31), 3) := by decide +kernel
theorem d_Md_writeSum_42 : decode b_Md_writeSum 42 = .ok (.return_, 1) := by decide +kernel
theorem d_Md_sumOf_0 : decode b_Md_sumOf 0 = .ok (.iconst 1, 1) := by decide +kernel
theorem d_Md_sumOf_1 : decode b_Md_sumOf 1 = .ok (.istore_n 2, 1) := by decide +kernel
theorem d_Md_sumOf_2 : decode b_Md_sumOf 2 = .ok (.iconst 0, 1) := by decide +kernel
theorem d_Md_sumOf_3 : decode b_Md_sumOf 3 = .ok (.istore_n 3, 1) := by decide +kernel
theorem d_Md_sumOf_4 : decode b_Md_sumOf 4 = .ok (.iload_n 3, 1) := by decide +kernel
theorem d_Md_sumOf_5 : decode b_Md_sumOf 5 = .ok (.bipush 60, 2) := by decide +kernel
theorem d_Md_sumOf_7 : decode b_Md_sumOf 7 = .ok (.if_icmp .ge 38, 3) := by decide +kernel
theorem d_Md_sumOf_10 : decode b_Md_sumOf 10 = .ok (.iload_n 2, 1) := by decide +kernel
theorem d_Md_sumOf_11 : decode b_Md_sumOf 11 = .ok (.aload_n 0, 1) := by decide +kernel
theorem d_Md_sumOf_12 : decode b_Md_sumOf 12 = .ok (.getfield 7, 3) := by decide +kernel
theorem d_Md_sumOf_15 : decode b_Md_sumOf 15 = .ok (.bipush 64, 2) := by decide +kernel
theorem d_Md_sumOf_17 : decode b_Md_sumOf 17 = .ok (.iload_n 1, 1) := by decide +kernel
theorem d_Md_sumOf_18 : decode b_Md_sumOf 18 = .ok (.imul, 1) := by decide +kernel
theorem d_Md_sumOf_19 : decode b_Md_sumOf 19 = .ok (.iload_n 3, 1) := by decide +kernel
theorem d_Md_sumOf_20 : decode b_Md_sumOf 20 = .ok (.iadd, 1) := by decide +kernel
theorem d_Md_sumOf_21 : decode b_Md_sumOf 21 = .ok (.iaload, 1) := by decide +kernel
theorem d_Md_sumOf_22 : decode b_Md_sumOf 22 = .ok (.ixor, 1) := by decide +kernel
theorem d_Md_sumOf_23 : decode b_Md_sumOf 23 = .ok (.istore_n 2, 1) := by decide +kernel
theorem d_Md_sumOf_24 : decode b_Md_sumOf 24 = .ok (.iload_n 2, 1) := by decide +kernel
theorem d_Md_sumOf_25 : decode b_Md_sumOf 25 = .ok (.bipush 17, 2) := by decide +kernel
theorem d_Md_sumOf_27 : decode b_Md_sumOf 27 = .ok (.ishl, 1) := by decide +kernel
theorem d_Md_sumOf_28 : decode b_Md_sumOf 28 = .ok (.iload_n 2, 1) := by decide +kernel
theorem d_Md_sumOf_29 : decode b_Md_sumOf 29 = .ok (.bipush 15, 2) := by decide +kernel
theorem d_Md_sumOf_31 : decode b_Md_sumOf 31 = .ok (.iushr, 1) := by decide +kernel
theorem d_Md_sumOf_32 : decode b_Md_sumOf 32 = .ok (.ior, 1) := by decide +kernel
theorem d_Md_sumOf_33 : decode b_Md_sumOf 33 = .ok (.istore_n 2, 1) := by decide +kernel
theorem d_Md_sumOf_34 : decode b_Md_sumOf 34 = .ok (.iload_n 2, 1) := by decide +kernel
theorem d_Md_sumOf_35 : decode b_Md_sumOf 35 = .ok (.ldc 49, 2) := by decide +kernel
theorem d_Md_sumOf_37 : decode b_Md_sumOf 37 = .ok (.imul, 1) := by decide +kernel
theorem d_Md_sumOf_38 : decode b_Md_sumOf 38 = .ok (.istore_n 2, 1) := by decide +kernel
theorem d_Md_sumOf_39 : decode b_Md_sumOf 39 = .ok (.iinc 3 1, 3) := by decide +kernel
theorem d_Md_sumOf_42 : decode b_Md_sumOf 42 = .ok (.goto (-38), 3) := by decide +kernel
theorem d_Md_sumOf_45 : decode b_Md_sumOf 45 = .ok (.iload_n 2, 1) := by decide +kernel
theorem d_Md_sumOf_46 : decode b_Md_sumOf 46 = .ok (.ireturn, 1) := by decide +kernel
theorem d_Md_thrown_0 : decode b_Md_thrown 0 = .ok (.aload_n 0, 1) := by decide +kernel
theorem d_Md_thrown_1 : decode b_Md_thrown 1 = .ok (.getfield 46, 3) := by decide +kernel
theorem d_Md_thrown_4 : decode b_Md_thrown 4 = .ok (.ireturn, 1) := by decide +kernel
theorem d_Md_feed_0 : decode b_Md_feed 0 = .ok (.aload_n 0, 1) := by decide +kernel
theorem d_Md_feed_1 : decode b_Md_feed 1 = .ok (.iconst 0, 1) := by decide +kernel
theorem d_Md_feed_2 : decode b_Md_feed 2 = .ok (.putfield 46, 3) := by decide +kernel
theorem d_Md_feed_5 : decode b_Md_feed 5 = .ok (.iload_n 1, 1) := by decide +kernel
theorem d_Md_feed_6 : decode b_Md_feed 6 = .ok (.ifCond .lt 19, 3) := by decide +kernel
theorem d_Md_feed_9 : decode b_Md_feed 9 = .ok (.iload_n 1, 1) := by decide +kernel
theorem d_Md_feed_10 : decode b_Md_feed 10 = .ok (.sipush 255, 3) := by decide +kernel
theorem d_Md_feed_13 : decode b_Md_feed 13 = .ok (.if_icmp .gt 12, 3) := by decide +kernel
theorem d_Md_feed_16 : decode b_Md_feed 16 = .ok (.aload_n 0, 1) := by decide +kernel
theorem d_Md_feed_17 : decode b_Md_feed 17 = .ok (.getfield 61, 3) := by decide +kernel
theorem d_Md_feed_20 : decode b_Md_feed 20 = .ok (.bipush 48, 2) := by decide +kernel
theorem d_Md_feed_22 : decode b_Md_feed 22 = .ok (.if_icmp .ne 5, 3) := by decide +kernel
theorem d_Md_feed_25 : decode b_Md_feed 25 = .ok (.iconst 0, 1) := by decide +kernel
theorem d_Md_feed_26 : decode b_Md_feed 26 = .ok (.ireturn, 1) := by decide +kernel
theorem d_Md_feed_27 : decode b_Md_feed 27 = .ok (.aload_n 0, 1) := by decide +kernel
theorem d_Md_feed_28 : decode b_Md_feed 28 = .ok (.getfield 16, 3) := by decide +kernel
theorem d_Md_feed_31 : decode b_Md_feed 31 = .ok (.aload_n 0, 1) := by decide +kernel
theorem d_Md_feed_32 : decode b_Md_feed 32 = .ok (.getfield 61, 3) := by decide +kernel
theorem d_Md_feed_35 : decode b_Md_feed 35 = .ok (.iload_n 1, 1) := by decide +kernel
theorem d_Md_feed_36 : decode b_Md_feed 36 = .ok (.iastore, 1) := by decide +kernel
theorem d_Md_feed_37 : decode b_Md_feed 37 = .ok (.aload_n 0, 1) := by decide +kernel
theorem d_Md_feed_38 : decode b_Md_feed 38 = .ok (.dup, 1) := by decide +kernel
theorem d_Md_feed_39 : decode b_Md_feed 39 = .ok (.getfield 61, 3) := by decide +kernel
theorem d_Md_feed_42 : decode b_Md_feed 42 = .ok (.iconst 1, 1) := by decide +kernel
theorem d_Md_feed_43 : decode b_Md_feed 43 = .ok (.iadd, 1) := by decide +kernel
theorem d_Md_feed_44 : decode b_Md_feed 44 = .ok (.putfield 61, 3) := by decide +kernel
theorem d_Md_feed_47 : decode b_Md_feed 47 = .ok (.iconst 1, 1) := by decide +kernel
theorem d_Md_feed_48 : decode b_Md_feed 48 = .ok (.ireturn, 1) := by decide +kernel
theorem d_Md_put_0 : decode b_Md_put 0 = .ok (.aload_n 0, 1) := by decide +kernel
theorem d_Md_put_1 : decode b_Md_put 1 = .ok (.iconst 0, 1) := by decide +kernel
theorem d_Md_put_2 : decode b_Md_put 2 = .ok (.putfield 46, 3) := by decide +kernel
theorem d_Md_put_5 : decode b_Md_put 5 = .ok (.aload_n 0, 1) := by decide +kernel
theorem d_Md_put_6 : decode b_Md_put 6 = .ok (.getfield 32, 3) := by decide +kernel
theorem d_Md_put_9 : decode b_Md_put 9 = .ok (.ifCond .eq 20, 3) := by decide +kernel
theorem d_Md_put_12 : decode b_Md_put 12 = .ok (.iload_n 1, 1) := by decide +kernel
theorem d_Md_put_13 : decode b_Md_put 13 = .ok (.ifCond .lt 16, 3) := by decide +kernel
theorem d_Md_put_16 : decode b_Md_put 16 = .ok (.iload_n 1, 1) := by decide +kernel
theorem d_Md_put_17 : decode b_Md_put 17 = .ok (.ldc 71, 2) := by decide +kernel
theorem d_Md_put_19 : decode b_Md_put 19 = .ok (.if_icmp .gt 10, 3) := by decide +kernel
theorem d_Md_put_22 : decode b_Md_put 22 = .ok (.aload_n 0, 1) := by decide +kernel
theorem d_Md_put_23 : decode b_Md_put 23 = .ok (.getfield 61, 3) := by decide +kernel
theorem d_Md_put_26 : decode b_Md_put 26 = .ok (.ifCond .ne 5, 3) := by decide +kernel
theorem d_Md_put_29 : decode b_Md_put 29 = .ok (.iconst (-1), 1) := by decide +kernel
theorem d_Md_put_30 : decode b_Md_put 30 = .ok (.ireturn, 1) := by decide +kernel
theorem d_Md_put_31 : decode b_Md_put 31 = .ok (.iconst 0, 1) := by decide +kernel
theorem d_Md_put_32 : decode b_Md_put 32 = .ok (.istore_n 2, 1) := by decide +kernel
theorem d_Md_put_33 : decode b_Md_put 33 = .ok (.iload_n 2, 1) := by decide +kernel
theorem d_Md_put_34 : decode b_Md_put 34 = .ok (.aload_n 0, 1) := by decide +kernel
theorem d_Md_put_35 : decode b_Md_put 35 = .ok (.getfield 54, 3) := by decide +kernel
theorem d_Md_put_38 : decode b_Md_put 38 = .ok (.if_icmp .ge 24, 3) := by decide +kernel
theorem d_Md_put_41 : decode b_Md_put 41 = .ok (.aload_n 0, 1) := by decide +kernel
theorem d_Md_put_42 : decode b_Md_put 42 = .ok (.iload_n 2, 1) := by decide +kernel
theorem d_Md_put_43 : decode b_Md_put 43 = .ok (.invokevirtual 72, 3) := by decide +kernel
theorem d_Md_put_46 : decode b_Md_put 46 = .ok (.ifCond .eq 10, 3) := by decide +kernel
theorem d_Md_put_49 : decode b_Md_put 49 = .ok (.aload_n 0, 1) := by decide +kernel
theorem d_Md_put_50 : decode b_Md_put 50 = .ok (.iconst 0, 1) := by decide +kernel
theorem d_Md_put_51 : decode b_Md_put 51 = .ok (.putfield 61, 3) := by decide +kernel
theorem d_Md_put_54 : decode b_Md_put 54 = .ok (.iload_n 2, 1) := by decide +kernel
theorem d_Md_put_55 : decode b_Md_put 55 = .ok (.ireturn, 1) := by decide +kernel
theorem d_Md_put_56 : decode b_Md_put 56 = .ok (.iinc 2 1, 3) := by decide +kernel
theorem d_Md_put_59 : decode b_Md_put 59 = .ok (.goto (-26), 3) := by decide +kernel
theorem d_Md_put_62 : decode b_Md_put 62 = .ok (.aload_n 0, 1) := by decide +kernel
theorem d_Md_put_63 : decode b_Md_put 63 = .ok (.invokevirtual 75, 3) := by decide +kernel
theorem d_Md_put_66 : decode b_Md_put 66 = .ok (.istore_n 2, 1) := by decide +kernel
theorem d_Md_put_67 : decode b_Md_put 67 = .ok (.aload_n 0, 1) := by decide +kernel
theorem d_Md_put_68 : decode b_Md_put 68 = .ok (.getfield 54, 3) := by decide +kernel
theorem d_Md_put_71 : decode b_Md_put 71 = .ok (.bipush 40, 2) := by decide +kernel
theorem d_Md_put_73 : decode b_Md_put 73 = .ok (.if_icmp .eq 7, 3) := by decide +kernel
theorem d_Md_put_76 : decode b_Md_put 76 = .ok (.iload_n 2, 1) := by decide +kernel
theorem d_Md_put_77 : decode b_Md_put 77 = .ok (.ifCond .ge 5, 3) := by decide +kernel
theorem d_Md_put_80 : decode b_Md_put 80 = .ok (.iconst (-1), 1) := by decide +kernel
theorem d_Md_put_81 : decode b_Md_put 81 = .ok (.ireturn, 1) := by decide +kernel
theorem d_Md_put_82 : decode b_Md_put 82 = .ok (.aload_n 0, 1) := by decide +kernel
theorem d_Md_put_83 : decode b_Md_put 83 = .ok (.iconst 0, 1) := by decide +kernel
theorem d_Md_put_84 : decode b_Md_put 84 = .ok (.putfield 43, 3) := by decide +kernel
theorem d_Md_put_87 : decode b_Md_put 87 = .ok (.aload_n 0, 1) := by decide +kernel
theorem d_Md_put_88 : decode b_Md_put 88 = .ok (.iload_n 2, 1) := by decide +kernel
theorem d_Md_put_89 : decode b_Md_put 89 = .ok (.iload_n 1, 1) := by decide +kernel
theorem d_Md_put_90 : decode b_Md_put 90 = .ok (.invokevirtual 79, 3) := by decide +kernel
theorem d_Md_put_93 : decode b_Md_put 93 = .ok (.aload_n 0, 1) := by decide +kernel
theorem d_Md_put_94 : decode b_Md_put 94 = .ok (.getfield 13, 3) := by decide +kernel
theorem d_Md_put_97 : decode b_Md_put 97 = .ok (.aload_n 0, 1) := by decide +kernel
theorem d_Md_put_98 : decode b_Md_put 98 = .ok (.getfield 54, 3) := by decide +kernel
theorem d_Md_put_101 : decode b_Md_put 101 = .ok (.iload_n 2, 1) := by decide +kernel
theorem d_Md_put_102 : decode b_Md_put 102 = .ok (.iastore, 1) := by decide +kernel
theorem d_Md_put_103 : decode b_Md_put 103 = .ok (.aload_n 0, 1) := by decide +kernel
theorem d_Md_put_104 : decode b_Md_put 104 = .ok (.dup, 1) := by decide +kernel
theorem d_Md_put_105 : decode b_Md_put 105 = .ok (.getfield 54, 3) := by decide +kernel
theorem d_Md_put_108 : decode b_Md_put 108 = .ok (.iconst 1, 1) := by decide +kernel
theorem d_Md_put_109 : decode b_Md_put 109 = .ok (.iadd, 1) := by decide +kernel
theorem d_Md_put_110 : decode b_Md_put 110 = .ok (.putfield 54, 3) := by decide +kernel
theorem d_Md_put_113 : decode b_Md_put 113 = .ok (.aload_n 0, 1) := by decide +kernel
theorem d_Md_put_114 : decode b_Md_put 114 = .ok (.iconst 3, 1) := by decide +kernel
theorem d_Md_put_115 : decode b_Md_put 115 = .ok (.aload_n 0, 1) := by decide +kernel
theorem d_Md_put_116 : decode b_Md_put 116 = .ok (.getfield 29, 3) := by decide +kernel
theorem d_Md_put_119 : decode b_Md_put 119 = .ok (.isub, 1) := by decide +kernel
theorem d_Md_put_120 : decode b_Md_put 120 = .ok (.iconst (-1), 1) := by decide +kernel
theorem d_Md_put_121 : decode b_Md_put 121 = .ok (.invokevirtual 36, 3) := by decide +kernel
theorem d_Md_put_124 : decode b_Md_put 124 = .ok (.aload_n 0, 1) := by decide +kernel
theorem d_Md_put_125 : decode b_Md_put 125 = .ok (.iconst 3, 1) := by decide +kernel
theorem d_Md_put_126 : decode b_Md_put 126 = .ok (.aload_n 0, 1) := by decide +kernel
theorem d_Md_put_127 : decode b_Md_put 127 = .ok (.getfield 29, 3) := by decide +kernel
theorem d_Md_put_130 : decode b_Md_put 130 = .ok (.isub, 1) := by decide +kernel
theorem d_Md_put_131 : decode b_Md_put 131 = .ok (.invokevirtual 82, 3) := by decide +kernel
theorem d_Md_put_134 : decode b_Md_put 134 = .ok (.aload_n 0, 1) := by decide +kernel
theorem d_Md_put_135 : decode b_Md_put 135 = .ok (.iconst 0, 1) := by decide +kernel
theorem d_Md_put_136 : decode b_Md_put 136 = .ok (.putfield 61, 3) := by decide +kernel
theorem d_Md_put_139 : decode b_Md_put 139 = .ok (.aload_n 0, 1) := by decide +kernel
theorem d_Md_put_140 : decode b_Md_put 140 = .ok (.getfield 54, 3) := by decide +kernel
theorem d_Md_put_143 : decode b_Md_put 143 = .ok (.iconst 1, 1) := by decide +kernel
theorem d_Md_put_144 : decode b_Md_put 144 = .ok (.isub, 1) := by decide +kernel
theorem d_Md_put_145 : decode b_Md_put 145 = .ok (.ireturn, 1) := by decide +kernel
theorem d_Md_hasFed_0 : decode b_Md_hasFed 0 = .ok (.aload_n 0, 1) := by decide +kernel
theorem d_Md_hasFed_1 : decode b_Md_hasFed 1 = .ok (.iload_n 1, 1) := by decide +kernel
theorem d_Md_hasFed_2 : decode b_Md_hasFed 2 = .ok (.invokevirtual 68, 3) := by decide +kernel
theorem d_Md_hasFed_5 : decode b_Md_hasFed 5 = .ok (.aload_n 0, 1) := by decide +kernel
theorem d_Md_hasFed_6 : decode b_Md_hasFed 6 = .ok (.getfield 61, 3) := by decide +kernel
theorem d_Md_hasFed_9 : decode b_Md_hasFed 9 = .ok (.if_icmp .eq 5, 3) := by decide +kernel
theorem d_Md_hasFed_12 : decode b_Md_hasFed 12 = .ok (.iconst 0, 1) := by decide +kernel
theorem d_Md_hasFed_13 : decode b_Md_hasFed 13 = .ok (.ireturn, 1) := by decide +kernel
theorem d_Md_hasFed_14 : decode b_Md_hasFed 14 = .ok (.iconst 0, 1) := by decide +kernel
theorem d_Md_hasFed_15 : decode b_Md_hasFed 15 = .ok (.istore_n 2, 1) := by decide +kernel
theorem d_Md_hasFed_16 : decode b_Md_hasFed 16 = .ok (.iload_n 2, 1) := by decide +kernel
theorem d_Md_hasFed_17 : decode b_Md_hasFed 17 = .ok (.aload_n 0, 1) := by decide +kernel
theorem d_Md_hasFed_18 : decode b_Md_hasFed 18 = .ok (.getfield 61, 3) := by decide +kernel
theorem d_Md_hasFed_21 : decode b_Md_hasFed 21 = .ok (.if_icmp .ge 38, 3) := by decide +kernel
theorem d_Md_hasFed_24 : decode b_Md_hasFed 24 = .ok (.aload_n 0, 1) := by decide +kernel
theorem d_Md_hasFed_25 : decode b_Md_hasFed 25 = .ok (.getfield 7, 3) := by decide +kernel
theorem d_Md_hasFed_28 : decode b_Md_hasFed 28 = .ok (.bipush 64, 2) := by decide +kernel
theorem d_Md_hasFed_30 : decode b_Md_hasFed 30 = .ok (.aload_n 0, 1) := by decide +kernel
theorem d_Md_hasFed_31 : decode b_Md_hasFed 31 = .ok (.getfield 13, 3) := by decide +kernel
theorem d_Md_hasFed_34 : decode b_Md_hasFed 34 = .ok (.iload_n 1, 1) := by decide +kernel
theorem d_Md_hasFed_35 : decode b_Md_hasFed 35 = .ok (.iaload, 1) := by decide +kernel
theorem d_Md_hasFed_36 : decode b_Md_hasFed 36 = .ok (.imul, 1) := by decide +kernel
theorem d_Md_hasFed_37 : decode b_Md_hasFed 37 = .ok (.iconst 3, 1) := by decide +kernel
theorem d_Md_hasFed_38 : decode b_Md_hasFed 38 = .ok (.iadd, 1) := by decide +kernel
theorem d_Md_hasFed_39 : decode b_Md_hasFed 39 = .ok (.iload_n 2, 1) := by decide +kernel
theorem d_Md_hasFed_40 : decode b_Md_hasFed 40 = .ok (.iadd, 1) := by decide +kernel
theorem d_Md_hasFed_41 : decode b_Md_hasFed 41 = .ok (.iaload, 1) := by decide +kernel
theorem d_Md_hasFed_42 : decode b_Md_hasFed 42 = .ok (.aload_n 0, 1) := by decide +kernel
theorem d_Md_hasFed_43 : decode b_Md_hasFed 43 = .ok (.getfield 16, 3) := by decide +kernel
theorem d_Md_hasFed_46 : decode b_Md_hasFed 46 = .ok (.iload_n 2, 1) := by decide +kernel
theorem d_Md_hasFed_47 : decode b_Md_hasFed 47 = .ok (.iaload, 1) := by decide +kernel
theorem d_Md_hasFed_48 : decode b_Md_hasFed 48 = .ok (.if_icmp .eq 5, 3) := by decide +kernel
theorem d_Md_hasFed_51 : decode b_Md_hasFed 51 = .ok (.iconst 0, 1) := by decide +kernel
theorem d_Md_hasFed_52 : decode b_Md_hasFed 52 = .ok (.ireturn, 1) := by decide +kernel
theorem d_Md_hasFed_53 : decode b_Md_hasFed 53 = .ok (.iinc 2 1, 3) := by decide +kernel
theorem d_Md_hasFed_56 : decode b_Md_hasFed 56 = .ok (.goto (-40), 3) := by decide +kernel
theorem d_Md_hasFed_59 : decode b_Md_hasFed 59 = .ok (.iconst 1, 1) := by decide +kernel
theorem d_Md_hasFed_60 : decode b_Md_hasFed 60 = .ok (.ireturn, 1) := by decide +kernel
theorem d_Md_longOf_0 : decode b_Md_longOf 0 = .ok (.aload_n 0, 1) := by decide +kernel
theorem d_Md_longOf_1 : decode b_Md_longOf 1 = .ok (.getfield 7, 3) := by decide +kernel
theorem d_Md_longOf_4 : decode b_Md_longOf 4 = .ok (.bipush 64, 2) := by decide +kernel
theorem d_Md_longOf_6 : decode b_Md_longOf 6 = .ok (.aload_n 0, 1) := by decide +kernel
theorem d_Md_longOf_7 : decode b_Md_longOf 7 = .ok (.getfield 13, 3) := by decide +kernel
theorem d_Md_longOf_10 : decode b_Md_longOf 10 = .ok (.iload_n 1, 1) := by decide +kernel
theorem d_Md_longOf_11 : decode b_Md_longOf 11 = .ok (.iaload, 1) := by decide +kernel
theorem d_Md_longOf_12 : decode b_Md_longOf 12 = .ok (.imul, 1) := by decide +kernel
theorem d_Md_longOf_13 : decode b_Md_longOf 13 = .ok (.iconst 2, 1) := by decide +kernel
theorem d_Md_longOf_14 : decode b_Md_longOf 14 = .ok (.iadd, 1) := by decide +kernel
theorem d_Md_longOf_15 : decode b_Md_longOf 15 = .ok (.iaload, 1) := by decide +kernel
theorem d_Md_longOf_16 : decode b_Md_longOf 16 = .ok (.ireturn, 1) := by decide +kernel
theorem d_Md_leastFree_0 : decode b_Md_leastFree 0 = .ok (.iconst 3, 1) := by decide +kernel
theorem d_Md_leastFree_1 : decode b_Md_leastFree 1 = .ok (.istore_n 1, 1) := by decide +kernel
theorem d_Md_leastFree_2 : decode b_Md_leastFree 2 = .ok (.iload_n 1, 1) := by decide +kernel
theorem d_Md_leastFree_3 : decode b_Md_leastFree 3 = .ok (.aload_n 0, 1) := by decide +kernel
theorem d_Md_leastFree_4 : decode b_Md_leastFree 4 = .ok (.getfield 25, 3) := by decide +kernel
theorem d_Md_leastFree_7 : decode b_Md_leastFree 7 = .ok (.if_icmp .ge 19, 3) := by decide +kernel
theorem d_Md_leastFree_10 : decode b_Md_leastFree 10 = .ok (.aload_n 0, 1) := by decide +kernel
theorem d_Md_leastFree_11 : decode b_Md_leastFree 11 = .ok (.iload_n 1, 1) := by decide +kernel
theorem d_Md_leastFree_12 : decode b_Md_leastFree 12 = .ok (.invokevirtual 64, 3) := by decide +kernel
theorem d_Md_leastFree_15 : decode b_Md_leastFree 15 = .ok (.ifCond .ne 5, 3) := by decide +kernel
theorem d_Md_leastFree_18 : decode b_Md_leastFree 18 = .ok (.iload_n 1, 1) := by decide +kernel
theorem d_Md_leastFree_19 : decode b_Md_leastFree 19 = .ok (.ireturn, 1) := by decide +kernel
theorem d_Md_leastFree_20 : decode b_Md_leastFree 20 = .ok (.iinc 1 1, 3) := by decide +kernel
theorem d_Md_leastFree_23 : decode b_Md_leastFree 23 = .ok (.goto (-21), 3) := by decide +kernel
theorem d_Md_leastFree_26 : decode b_Md_leastFree 26 = .ok (.iconst (-1), 1) := by decide +kernel
theorem d_Md_leastFree_27 : decode b_Md_leastFree 27 = .ok (.ireturn, 1) := by decide +kernel
theorem d_Md_isUsed_0 : decode b_Md_isUsed 0 = .ok (.iconst 0, 1) := by decide +kernel
theorem d_Md_isUsed_1 : decode b_Md_isUsed 1 = .ok (.istore_n 2, 1) := by decide +kernel
theorem d_Md_isUsed_2 : decode b_Md_isUsed 2 = .ok (.iload_n 2, 1) := by decide +kernel
theorem d_Md_isUsed_3 : decode b_Md_isUsed 3 = .ok (.aload_n 0, 1) := by decide +kernel
theorem d_Md_isUsed_4 : decode b_Md_isUsed 4 = .ok (.getfield 54, 3) := by decide +kernel
theorem d_Md_isUsed_7 : decode b_Md_isUsed 7 = .ok (.if_icmp .ge 21, 3) := by decide +kernel
theorem d_Md_isUsed_10 : decode b_Md_isUsed 10 = .ok (.aload_n 0, 1) := by decide +kernel
theorem d_Md_isUsed_11 : decode b_Md_isUsed 11 = .ok (.getfield 13, 3) := by decide +kernel
theorem d_Md_isUsed_14 : decode b_Md_isUsed 14 = .ok (.iload_n 2, 1) := by decide +kernel
theorem d_Md_isUsed_15 : decode b_Md_isUsed 15 = .ok (.iaload, 1) := by decide +kernel
theorem d_Md_isUsed_16 : decode b_Md_isUsed 16 = .ok (.iload_n 1, 1) := by decide +kernel
theorem d_Md_isUsed_17 : decode b_Md_isUsed 17 = .ok (.if_icmp .ne 5, 3) := by decide +kernel
theorem d_Md_isUsed_20 : decode b_Md_isUsed 20 = .ok (.iconst 1, 1) := by decide +kernel
theorem d_Md_isUsed_21 : decode b_Md_isUsed 21 = .ok (.ireturn, 1) := by decide +kernel
theorem d_Md_isUsed_22 : decode b_Md_isUsed 22 = .ok (.iinc 2 1, 3) := by decide +kernel
theorem d_Md_isUsed_25 : decode b_Md_isUsed 25 = .ok (.goto (-23), 3) := by decide +kernel
theorem d_Md_isUsed_28 : decode b_Md_isUsed 28 = .ok (.iconst 0, 1) := by decide +kernel
theorem d_Md_isUsed_29 : decode b_Md_isUsed 29 = .ok (.ireturn, 1) := by decide +kernel
theorem d_Md_writeEntry_0 : decode b_Md_writeEntry 0 = .ok (.aload_n 0, 1) := by decide +kernel
theorem d_Md_writeEntry_1 : decode b_Md_writeEntry 1 = .ok (.bipush 64, 2) := by decide +kernel
theorem d_Md_writeEntry_3 : decode b_Md_writeEntry 3 = .ok (.iload_n 1, 1) := by decide +kernel
theorem d_Md_writeEntry_4 : decode b_Md_writeEntry 4 = .ok (.imul, 1) := by decide +kernel
theorem d_Md_writeEntry_5 : decode b_Md_writeEntry 5 = .ok (.iload_n 2, 1) := by decide +kernel
theorem d_Md_writeEntry_6 : decode b_Md_writeEntry 6 = .ok (.sipush 255, 3) := by decide +kernel
theorem d_Md_writeEntry_9 : decode b_Md_writeEntry 9 = .ok (.iand, 1) := by decide +kernel
theorem d_Md_writeEntry_10 : decode b_Md_writeEntry 10 = .ok (.invokevirtual 40, 3) := by decide +kernel
theorem d_Md_writeEntry_13 : decode b_Md_writeEntry 13 = .ok (.aload_n 0, 1) := by decide +kernel
theorem d_Md_writeEntry_14 : decode b_Md_writeEntry 14 = .ok (.bipush 64, 2) := by decide +kernel
theorem d_Md_writeEntry_16 : decode b_Md_writeEntry 16 = .ok (.iload_n 1, 1) := by decide +kernel
theorem d_Md_writeEntry_17 : decode b_Md_writeEntry 17 = .ok (.imul, 1) := by decide +kernel
theorem d_Md_writeEntry_18 : decode b_Md_writeEntry 18 = .ok (.iconst 1, 1) := by decide +kernel
theorem d_Md_writeEntry_19 : decode b_Md_writeEntry 19 = .ok (.iadd, 1) := by decide +kernel
theorem d_Md_writeEntry_20 : decode b_Md_writeEntry 20 = .ok (.iload_n 2, 1) := by decide +kernel
theorem d_Md_writeEntry_21 : decode b_Md_writeEntry 21 = .ok (.bipush 8, 2) := by decide +kernel
theorem d_Md_writeEntry_23 : decode b_Md_writeEntry 23 = .ok (.ishr, 1) := by decide +kernel
theorem d_Md_writeEntry_24 : decode b_Md_writeEntry 24 = .ok (.invokevirtual 40, 3) := by decide +kernel
theorem d_Md_writeEntry_27 : decode b_Md_writeEntry 27 = .ok (.aload_n 0, 1) := by decide +kernel
theorem d_Md_writeEntry_28 : decode b_Md_writeEntry 28 = .ok (.bipush 64, 2) := by decide +kernel
theorem d_Md_writeEntry_30 : decode b_Md_writeEntry 30 = .ok (.iload_n 1, 1) := by decide +kernel
theorem d_Md_writeEntry_31 : decode b_Md_writeEntry 31 = .ok (.imul, 1) := by decide +kernel
theorem d_Md_writeEntry_32 : decode b_Md_writeEntry 32 = .ok (.iconst 2, 1) := by decide +kernel
theorem d_Md_writeEntry_33 : decode b_Md_writeEntry 33 = .ok (.iadd, 1) := by decide +kernel
theorem d_Md_writeEntry_34 : decode b_Md_writeEntry 34 = .ok (.aload_n 0, 1) := by decide +kernel
theorem d_Md_writeEntry_35 : decode b_Md_writeEntry 35 = .ok (.getfield 61, 3) := by decide +kernel
theorem d_Md_writeEntry_38 : decode b_Md_writeEntry 38 = .ok (.invokevirtual 40, 3) := by decide +kernel
theorem d_Md_writeEntry_41 : decode b_Md_writeEntry 41 = .ok (.iconst 3, 1) := by decide +kernel
theorem d_Md_writeEntry_42 : decode b_Md_writeEntry 42 = .ok (.istore_n 3, 1) := by decide +kernel
theorem d_Md_writeEntry_43 : decode b_Md_writeEntry 43 = .ok (.iload_n 3, 1) := by decide +kernel
theorem d_Md_writeEntry_44 : decode b_Md_writeEntry 44 = .ok (.bipush 60, 2) := by decide +kernel
theorem d_Md_writeEntry_46 : decode b_Md_writeEntry 46 = .ok (.if_icmp .ge 41, 3) := by decide +kernel
theorem d_Md_writeEntry_49 : decode b_Md_writeEntry 49 = .ok (.aload_n 0, 1) := by decide +kernel
theorem d_Md_writeEntry_50 : decode b_Md_writeEntry 50 = .ok (.bipush 64, 2) := by decide +kernel
theorem d_Md_writeEntry_52 : decode b_Md_writeEntry 52 = .ok (.iload_n 1, 1) := by decide +kernel
theorem d_Md_writeEntry_53 : decode b_Md_writeEntry 53 = .ok (.imul, 1) := by decide +kernel
theorem d_Md_writeEntry_54 : decode b_Md_writeEntry 54 = .ok (.iload_n 3, 1) := by decide +kernel
theorem d_Md_writeEntry_55 : decode b_Md_writeEntry 55 = .ok (.iadd, 1) := by decide +kernel
theorem d_Md_writeEntry_56 : decode b_Md_writeEntry 56 = .ok (.iload_n 3, 1) := by decide +kernel
theorem d_Md_writeEntry_57 : decode b_Md_writeEntry 57 = .ok (.iconst 3, 1) := by decide +kernel
theorem d_Md_writeEntry_58 : decode b_Md_writeEntry 58 = .ok (.isub, 1) := by decide +kernel
theorem d_Md_writeEntry_59 : decode b_Md_writeEntry 59 = .ok (.aload_n 0, 1) := by decide +kernel
theorem d_Md_writeEntry_60 : decode b_Md_writeEntry 60 = .ok (.getfield 61, 3) := by decide +kernel
theorem d_Md_writeEntry_63 : decode b_Md_writeEntry 63 = .ok (.if_icmp .ge 14, 3) := by decide +kernel
theorem d_Md_writeEntry_66 : decode b_Md_writeEntry 66 = .ok (.aload_n 0, 1) := by decide +kernel
theorem d_Md_writeEntry_67 : decode b_Md_writeEntry 67 = .ok (.getfield 16, 3) := by decide +kernel
theorem d_Md_writeEntry_70 : decode b_Md_writeEntry 70 = .ok (.iload_n 3, 1) := by decide +kernel
theorem d_Md_writeEntry_71 : decode b_Md_writeEntry 71 = .ok (.iconst 3, 1) := by decide +kernel
theorem d_Md_writeEntry_72 : decode b_Md_writeEntry 72 = .ok (.isub, 1) := by decide +kernel
theorem d_Md_writeEntry_73 : decode b_Md_writeEntry 73 = .ok (.iaload, 1) := by decide +kernel
theorem d_Md_writeEntry_74 : decode b_Md_writeEntry 74 = .ok (.goto 4, 3) := by decide +kernel
theorem d_Md_writeEntry_77 : decode b_Md_writeEntry 77 = .ok (.iconst 0, 1) := by decide +kernel
theorem d_Md_writeEntry_78 : decode b_Md_writeEntry 78 = .ok (.invokevirtual 40, 3) := by decide +kernel
theorem d_Md_writeEntry_81 : decode b_Md_writeEntry 81 = .ok (.iinc 3 1, 3) := by decide +kernel
theorem d_Md_writeEntry_84 : decode b_Md_writeEntry 84 = .ok (.goto (-41), 3) := by decide +kernel
theorem d_Md_writeEntry_87 : decode b_Md_writeEntry 87 = .ok (.aload_n 0, 1) := by decide +kernel
theorem d_Md_writeEntry_88 : decode b_Md_writeEntry 88 = .ok (.iload_n 1, 1) := by decide +kernel
theorem d_Md_writeEntry_89 : decode b_Md_writeEntry 89 = .ok (.invokevirtual 57, 3) := by decide +kernel
theorem d_Md_writeEntry_92 : decode b_Md_writeEntry 92 = .ok (.return_, 1) := by decide +kernel
theorem d_Md_turnTo_0 : decode b_Md_turnTo 0 = .ok (.aload_n 0, 1) := by decide +kernel
theorem d_Md_turnTo_1 : decode b_Md_turnTo 1 = .ok (.iconst 0, 1) := by decide +kernel
theorem d_Md_turnTo_2 : decode b_Md_turnTo 2 = .ok (.iload_n 1, 1) := by decide +kernel
theorem d_Md_turnTo_3 : decode b_Md_turnTo 3 = .ok (.invokevirtual 40, 3) := by decide +kernel
theorem d_Md_turnTo_6 : decode b_Md_turnTo 6 = .ok (.aload_n 0, 1) := by decide +kernel
theorem d_Md_turnTo_7 : decode b_Md_turnTo 7 = .ok (.iload_n 1, 1) := by decide +kernel
theorem d_Md_turnTo_8 : decode b_Md_turnTo 8 = .ok (.putfield 29, 3) := by decide +kernel
theorem d_Md_turnTo_11 : decode b_Md_turnTo 11 = .ok (.return_, 1) := by decide +kernel
theorem d_Md_drop_0 : decode b_Md_drop 0 = .ok (.aload_n 0, 1) := by decide +kernel
theorem d_Md_drop_1 : decode b_Md_drop 1 = .ok (.iconst 0, 1) := by decide +kernel
theorem d_Md_drop_2 : decode b_Md_drop 2 = .ok (.putfield 46, 3) := by decide +kernel
theorem d_Md_drop_5 : decode b_Md_drop 5 = .ok (.aload_n 0, 1) := by decide +kernel
theorem d_Md_drop_6 : decode b_Md_drop 6 = .ok (.getfield 32, 3) := by decide +kernel
theorem d_Md_drop_9 : decode b_Md_drop 9 = .ok (.ifCond .eq 15, 3) := by decide +kernel
theorem d_Md_drop_12 : decode b_Md_drop 12 = .ok (.iload_n 1, 1) := by decide +kernel
theorem d_Md_drop_13 : decode b_Md_drop 13 = .ok (.ifCond .lt 11, 3) := by decide +kernel
theorem d_Md_drop_16 : decode b_Md_drop 16 = .ok (.iload_n 1, 1) := by decide +kernel
theorem d_Md_drop_17 : decode b_Md_drop 17 = .ok (.aload_n 0, 1) := by decide +kernel
theorem d_Md_drop_18 : decode b_Md_drop 18 = .ok (.getfield 54, 3) := by decide +kernel
theorem d_Md_drop_21 : decode b_Md_drop 21 = .ok (.if_icmp .lt 5, 3) := by decide +kernel
theorem d_Md_drop_24 : decode b_Md_drop 24 = .ok (.iconst 0, 1) := by decide +kernel
theorem d_Md_drop_25 : decode b_Md_drop 25 = .ok (.ireturn, 1) := by decide +kernel
theorem d_Md_drop_26 : decode b_Md_drop 26 = .ok (.aload_n 0, 1) := by decide +kernel
theorem d_Md_drop_27 : decode b_Md_drop 27 = .ok (.iconst 0, 1) := by decide +kernel
theorem d_Md_drop_28 : decode b_Md_drop 28 = .ok (.putfield 43, 3) := by decide +kernel
theorem d_Md_drop_31 : decode b_Md_drop 31 = .ok (.aload_n 0, 1) := by decide +kernel
theorem d_Md_drop_32 : decode b_Md_drop 32 = .ok (.iconst 3, 1) := by decide +kernel
theorem d_Md_drop_33 : decode b_Md_drop 33 = .ok (.aload_n 0, 1) := by decide +kernel
theorem d_Md_drop_34 : decode b_Md_drop 34 = .ok (.getfield 29, 3) := by decide +kernel
theorem d_Md_drop_37 : decode b_Md_drop 37 = .ok (.isub, 1) := by decide +kernel
theorem d_Md_drop_38 : decode b_Md_drop 38 = .ok (.iload_n 1, 1) := by decide +kernel
theorem d_Md_drop_39 : decode b_Md_drop 39 = .ok (.invokevirtual 36, 3) := by decide +kernel
theorem d_Md_drop_42 : decode b_Md_drop 42 = .ok (.aload_n 0, 1) := by decide +kernel
theorem d_Md_drop_43 : decode b_Md_drop 43 = .ok (.iconst 3, 1) := by decide +kernel
theorem d_Md_drop_44 : decode b_Md_drop 44 = .ok (.aload_n 0, 1) := by decide +kernel
theorem d_Md_drop_45 : decode b_Md_drop 45 = .ok (.getfield 29, 3) := by decide +kernel
theorem d_Md_drop_48 : decode b_Md_drop 48 = .ok (.isub, 1) := by decide +kernel
theorem d_Md_drop_49 : decode b_Md_drop 49 = .ok (.invokevirtual 82, 3) := by decide +kernel
theorem d_Md_drop_52 : decode b_Md_drop 52 = .ok (.aload_n 0, 1) := by decide +kernel
theorem d_Md_drop_53 : decode b_Md_drop 53 = .ok (.dup, 1) := by decide +kernel
theorem d_Md_drop_54 : decode b_Md_drop 54 = .ok (.getfield 54, 3) := by decide +kernel
theorem d_Md_drop_57 : decode b_Md_drop 57 = .ok (.iconst 1, 1) := by decide +kernel
theorem d_Md_drop_58 : decode b_Md_drop 58 = .ok (.isub, 1) := by decide +kernel
theorem d_Md_drop_59 : decode b_Md_drop 59 = .ok (.putfield 54, 3) := by decide +kernel
theorem d_Md_drop_62 : decode b_Md_drop 62 = .ok (.iload_n 1, 1) := by decide +kernel
theorem d_Md_drop_63 : decode b_Md_drop 63 = .ok (.istore_n 2, 1) := by decide +kernel
theorem d_Md_drop_64 : decode b_Md_drop 64 = .ok (.iload_n 2, 1) := by decide +kernel
theorem d_Md_drop_65 : decode b_Md_drop 65 = .ok (.aload_n 0, 1) := by decide +kernel
theorem d_Md_drop_66 : decode b_Md_drop 66 = .ok (.getfield 54, 3) := by decide +kernel
theorem d_Md_drop_69 : decode b_Md_drop 69 = .ok (.if_icmp .ge 23, 3) := by decide +kernel
theorem d_Md_drop_72 : decode b_Md_drop 72 = .ok (.aload_n 0, 1) := by decide +kernel
theorem d_Md_drop_73 : decode b_Md_drop 73 = .ok (.getfield 13, 3) := by decide +kernel
theorem d_Md_drop_76 : decode b_Md_drop 76 = .ok (.iload_n 2, 1) := by decide +kernel
theorem d_Md_drop_77 : decode b_Md_drop 77 = .ok (.aload_n 0, 1) := by decide +kernel
theorem d_Md_drop_78 : decode b_Md_drop 78 = .ok (.getfield 13, 3) := by decide +kernel
theorem d_Md_drop_81 : decode b_Md_drop 81 = .ok (.iload_n 2, 1) := by decide +kernel
theorem d_Md_drop_82 : decode b_Md_drop 82 = .ok (.iconst 1, 1) := by decide +kernel
theorem d_Md_drop_83 : decode b_Md_drop 83 = .ok (.iadd, 1) := by decide +kernel
theorem d_Md_drop_84 : decode b_Md_drop 84 = .ok (.iaload, 1) := by decide +kernel
theorem d_Md_drop_85 : decode b_Md_drop 85 = .ok (.iastore, 1) := by decide +kernel
theorem d_Md_drop_86 : decode b_Md_drop 86 = .ok (.iinc 2 1, 3) := by decide +kernel
theorem d_Md_drop_89 : decode b_Md_drop 89 = .ok (.goto (-25), 3) := by decide +kernel
theorem d_Md_drop_92 : decode b_Md_drop 92 = .ok (.iconst 1, 1) := by decide +kernel
theorem d_Md_drop_93 : decode b_Md_drop 93 = .ok (.ireturn, 1) := by decide +kernel
theorem d_Md_find_0 : decode b_Md_find 0 = .ok (.aload_n 0, 1) := by decide +kernel
theorem d_Md_find_1 : decode b_Md_find 1 = .ok (.iconst 0, 1) := by decide +kernel
theorem d_Md_find_2 : decode b_Md_find 2 = .ok (.putfield 46, 3) := by decide +kernel
theorem d_Md_find_5 : decode b_Md_find 5 = .ok (.aload_n 0, 1) := by decide +kernel
theorem d_Md_find_6 : decode b_Md_find 6 = .ok (.getfield 32, 3) := by decide +kernel
theorem d_Md_find_9 : decode b_Md_find 9 = .ok (.ifCond .ne 5, 3) := by decide +kernel
theorem d_Md_find_12 : decode b_Md_find 12 = .ok (.iconst (-1), 1) := by decide +kernel
theorem d_Md_find_13 : decode b_Md_find 13 = .ok (.ireturn, 1) := by decide +kernel
theorem d_Md_find_14 : decode b_Md_find 14 = .ok (.aload_n 0, 1) := by decide +kernel
theorem d_Md_find_15 : decode b_Md_find 15 = .ok (.getfield 54, 3) := by decide +kernel
theorem d_Md_find_18 : decode b_Md_find 18 = .ok (.iconst 1, 1) := by decide +kernel
theorem d_Md_find_19 : decode b_Md_find 19 = .ok (.isub, 1) := by decide +kernel
theorem d_Md_find_20 : decode b_Md_find 20 = .ok (.istore_n 3, 1) := by decide +kernel
theorem d_Md_find_21 : decode b_Md_find 21 = .ok (.iload_n 3, 1) := by decide +kernel
theorem d_Md_find_22 : decode b_Md_find 22 = .ok (.ifCond .lt 60, 3) := by decide +kernel
theorem d_Md_find_25 : decode b_Md_find 25 = .ok (.aload_n 0, 1) := by decide +kernel
theorem d_Md_find_26 : decode b_Md_find 26 = .ok (.iload_n 3, 1) := by decide +kernel
theorem d_Md_find_27 : decode b_Md_find 27 = .ok (.invokevirtual 85, 3) := by decide +kernel
theorem d_Md_find_30 : decode b_Md_find 30 = .ok (.iload_n 1, 1) := by decide +kernel
theorem d_Md_find_31 : decode b_Md_find 31 = .ok (.if_icmp .ne 45, 3) := by decide +kernel
theorem d_Md_find_34 : decode b_Md_find 34 = .ok (.iload_n 2, 1) := by decide +kernel
theorem d_Md_find_35 : decode b_Md_find 35 = .ok (.ifCond .lt 18, 3) := by decide +kernel
theorem d_Md_find_38 : decode b_Md_find 38 = .ok (.iload_n 2, 1) := by decide +kernel
theorem d_Md_find_39 : decode b_Md_find 39 = .ok (.aload_n 0, 1) := by decide +kernel
theorem d_Md_find_40 : decode b_Md_find 40 = .ok (.iload_n 3, 1) := by decide +kernel
theorem d_Md_find_41 : decode b_Md_find 41 = .ok (.invokevirtual 68, 3) := by decide +kernel
theorem d_Md_find_44 : decode b_Md_find 44 = .ok (.if_icmp .ge 9, 3) := by decide +kernel
theorem d_Md_find_47 : decode b_Md_find 47 = .ok (.iload_n 2, 1) := by decide +kernel
theorem d_Md_find_48 : decode b_Md_find 48 = .ok (.bipush 48, 2) := by decide +kernel
theorem d_Md_find_50 : decode b_Md_find 50 = .ok (.if_icmp .lt 7, 3) := by decide +kernel
theorem d_Md_find_53 : decode b_Md_find 53 = .ok (.iconst (-1), 1) := by decide +kernel
theorem d_Md_find_54 : decode b_Md_find 54 = .ok (.goto 21, 3) := by decide +kernel
theorem d_Md_find_57 : decode b_Md_find 57 = .ok (.aload_n 0, 1) := by decide +kernel
theorem d_Md_find_58 : decode b_Md_find 58 = .ok (.getfield 7, 3) := by decide +kernel
theorem d_Md_find_61 : decode b_Md_find 61 = .ok (.bipush 64, 2) := by decide +kernel
theorem d_Md_find_63 : decode b_Md_find 63 = .ok (.aload_n 0, 1) := by decide +kernel
theorem d_Md_find_64 : decode b_Md_find 64 = .ok (.getfield 13, 3) := by decide +kernel
theorem d_Md_find_67 : decode b_Md_find 67 = .ok (.iload_n 3, 1) := by decide +kernel
theorem d_Md_find_68 : decode b_Md_find 68 = .ok (.iaload, 1) := by decide +kernel
theorem d_Md_find_69 : decode b_Md_find 69 = .ok (.imul, 1) := by decide +kernel
theorem d_Md_find_70 : decode b_Md_find 70 = .ok (.iconst 3, 1) := by decide +kernel
theorem d_Md_find_71 : decode b_Md_find 71 = .ok (.iadd, 1) := by decide +kernel
theorem d_Md_find_72 : decode b_Md_find 72 = .ok (.iload_n 2, 1) := by decide +kernel
theorem d_Md_find_73 : decode b_Md_find 73 = .ok (.iadd, 1) := by decide +kernel
theorem d_Md_find_74 : decode b_Md_find 74 = .ok (.iaload, 1) := by decide +kernel
theorem d_Md_find_75 : decode b_Md_find 75 = .ok (.ireturn, 1) := by decide +kernel
theorem d_Md_find_76 : decode b_Md_find 76 = .ok (.iinc 3 (-1), 3) := by decide +kernel
theorem d_Md_find_79 : decode b_Md_find 79 = .ok (.goto (-58), 3) := by decide +kernel
theorem d_Md_find_82 : decode b_Md_find 82 = .ok (.iconst (-1), 1) := by decide +kernel
theorem d_Md_find_83 : decode b_Md_find 83 = .ok (.ireturn, 1) := by decide +kernel
theorem d_Md_nameOf_0 : decode b_Md_nameOf 0 = .ok (.aload_n 0, 1) := by decide +kernel
theorem d_Md_nameOf_1 : decode b_Md_nameOf 1 = .ok (.getfield 7, 3) := by decide +kernel
theorem d_Md_nameOf_4 : decode b_Md_nameOf 4 = .ok (.bipush 64, 2) := by decide +kernel
theorem d_Md_nameOf_6 : decode b_Md_nameOf 6 = .ok (.aload_n 0, 1) := by decide +kernel
theorem d_Md_nameOf_7 : decode b_Md_nameOf 7 = .ok (.getfield 13, 3) := by decide +kernel
theorem d_Md_nameOf_10 : decode b_Md_nameOf 10 = .ok (.iload_n 1, 1) := by decide +kernel
theorem d_Md_nameOf_11 : decode b_Md_nameOf 11 = .ok (.iaload, 1) := by decide +kernel
theorem d_Md_nameOf_12 : decode b_Md_nameOf 12 = .ok (.imul, 1) := by decide +kernel
theorem d_Md_nameOf_13 : decode b_Md_nameOf 13 = .ok (.iaload, 1) := by decide +kernel
theorem d_Md_nameOf_14 : decode b_Md_nameOf 14 = .ok (.sipush 256, 3) := by decide +kernel
theorem d_Md_nameOf_17 : decode b_Md_nameOf 17 = .ok (.aload_n 0, 1) := by decide +kernel
theorem d_Md_nameOf_18 : decode b_Md_nameOf 18 = .ok (.getfield 7, 3) := by decide +kernel
theorem d_Md_nameOf_21 : decode b_Md_nameOf 21 = .ok (.bipush 64, 2) := by decide +kernel
theorem d_Md_nameOf_23 : decode b_Md_nameOf 23 = .ok (.aload_n 0, 1) := by decide +kernel
theorem d_Md_nameOf_24 : decode b_Md_nameOf 24 = .ok (.getfield 13, 3) := by decide +kernel
theorem d_Md_nameOf_27 : decode b_Md_nameOf 27 = .ok (.iload_n 1, 1) := by decide +kernel
theorem d_Md_nameOf_28 : decode b_Md_nameOf 28 = .ok (.iaload, 1) := by decide +kernel
theorem d_Md_nameOf_29 : decode b_Md_nameOf 29 = .ok (.imul, 1) := by decide +kernel
theorem d_Md_nameOf_30 : decode b_Md_nameOf 30 = .ok (.iconst 1, 1) := by decide +kernel
theorem d_Md_nameOf_31 : decode b_Md_nameOf 31 = .ok (.iadd, 1) := by decide +kernel
theorem d_Md_nameOf_32 : decode b_Md_nameOf 32 = .ok (.iaload, 1) := by decide +kernel
theorem d_Md_nameOf_33 : decode b_Md_nameOf 33 = .ok (.imul, 1) := by decide +kernel
theorem d_Md_nameOf_34 : decode b_Md_nameOf 34 = .ok (.iadd, 1) := by decide +kernel
theorem d_Md_nameOf_35 : decode b_Md_nameOf 35 = .ok (.ireturn, 1) := by decide +kernel
theorem d_Md_entry_0 : decode b_Md_entry 0 = .ok (.aload_n 0, 1) := by decide +kernel
theorem d_Md_entry_1 : decode b_Md_entry 1 = .ok (.iconst 0, 1) := by decide +kernel
theorem d_Md_entry_2 : decode b_Md_entry 2 = .ok (.putfield 46, 3) := by decide +kernel
theorem d_Md_entry_5 : decode b_Md_entry 5 = .ok (.aload_n 0, 1) := by decide +kernel
theorem d_Md_entry_6 : decode b_Md_entry 6 = .ok (.getfield 32, 3) := by decide +kernel
theorem d_Md_entry_9 : decode b_Md_entry 9 = .ok (.ifCond .eq 15, 3) := by decide +kernel
theorem d_Md_entry_12 : decode b_Md_entry 12 = .ok (.iload_n 1, 1) := by decide +kernel
theorem d_Md_entry_13 : decode b_Md_entry 13 = .ok (.ifCond .lt 11, 3) := by decide +kernel
theorem d_Md_entry_16 : decode b_Md_entry 16 = .ok (.iload_n 1, 1) := by decide +kernel
theorem d_Md_entry_17 : decode b_Md_entry 17 = .ok (.aload_n 0, 1) := by decide +kernel
theorem d_Md_entry_18 : decode b_Md_entry 18 = .ok (.getfield 54, 3) := by decide +kernel
theorem d_Md_entry_21 : decode b_Md_entry 21 = .ok (.if_icmp .lt 5, 3) := by decide +kernel
theorem d_Md_entry_24 : decode b_Md_entry 24 = .ok (.iconst (-1), 1) := by decide +kernel
theorem d_Md_entry_25 : decode b_Md_entry 25 = .ok (.ireturn, 1) := by decide +kernel
theorem d_Md_entry_26 : decode b_Md_entry 26 = .ok (.iload_n 2, 1) := by decide +kernel
theorem d_Md_entry_27 : decode b_Md_entry 27 = .ok (.ifCond .ne 11, 3) := by decide +kernel
theorem d_Md_entry_30 : decode b_Md_entry 30 = .ok (.aload_n 0, 1) := by decide +kernel
theorem d_Md_entry_31 : decode b_Md_entry 31 = .ok (.iload_n 1, 1) := by decide +kernel
theorem d_Md_entry_32 : decode b_Md_entry 32 = .ok (.invokevirtual 85, 3) := by decide +kernel
theorem d_Md_entry_35 : decode b_Md_entry 35 = .ok (.goto 31, 3) := by decide +kernel
theorem d_Md_entry_38 : decode b_Md_entry 38 = .ok (.iload_n 2, 1) := by decide +kernel
theorem d_Md_entry_39 : decode b_Md_entry 39 = .ok (.iconst 1, 1) := by decide +kernel
theorem d_Md_entry_40 : decode b_Md_entry 40 = .ok (.if_icmp .ne 12, 3) := by decide +kernel
theorem d_Md_entry_43 : decode b_Md_entry 43 = .ok (.aload_n 0, 1) := by decide +kernel
theorem d_Md_entry_44 : decode b_Md_entry 44 = .ok (.getfield 13, 3) := by decide +kernel
theorem d_Md_entry_47 : decode b_Md_entry 47 = .ok (.iload_n 1, 1) := by decide +kernel
theorem d_Md_entry_48 : decode b_Md_entry 48 = .ok (.iaload, 1) := by decide +kernel
theorem d_Md_entry_49 : decode b_Md_entry 49 = .ok (.goto 17, 3) := by decide +kernel
theorem d_Md_entry_52 : decode b_Md_entry 52 = .ok (.iload_n 2, 1) := by decide +kernel
theorem d_Md_entry_53 : decode b_Md_entry 53 = .ok (.iconst 2, 1) := by decide +kernel
theorem d_Md_entry_54 : decode b_Md_entry 54 = .ok (.if_icmp .ne 11, 3) := by decide +kernel
theorem d_Md_entry_57 : decode b_Md_entry 57 = .ok (.aload_n 0, 1) := by decide +kernel
theorem d_Md_entry_58 : decode b_Md_entry 58 = .ok (.iload_n 1, 1) := by decide +kernel
theorem d_Md_entry_59 : decode b_Md_entry 59 = .ok (.invokevirtual 68, 3) := by decide +kernel
theorem d_Md_entry_62 : decode b_Md_entry 62 = .ok (.goto 4, 3) := by decide +kernel
theorem d_Md_entry_65 : decode b_Md_entry 65 = .ok (.iconst (-1), 1) := by decide +kernel
theorem d_Md_entry_66 : decode b_Md_entry 66 = .ok (.ireturn, 1) := by decide +kernel
theorem d_Md_crash_0 : decode b_Md_crash 0 = .ok (.aload_n 0, 1) := by decide +kernel
theorem d_Md_crash_1 : decode b_Md_crash 1 = .ok (.iconst 0, 1) := by decide +kernel
theorem d_Md_crash_2 : decode b_Md_crash 2 = .ok (.putfield 46, 3) := by decide +kernel
theorem d_Md_crash_5 : decode b_Md_crash 5 = .ok (.aload_n 0, 1) := by decide +kernel
theorem d_Md_crash_6 : decode b_Md_crash 6 = .ok (.getfield 32, 3) := by decide +kernel
theorem d_Md_crash_9 : decode b_Md_crash 9 = .ok (.ifCond .eq 22, 3) := by decide +kernel
theorem d_Md_crash_12 : decode b_Md_crash 12 = .ok (.aload_n 0, 1) := by decide +kernel
theorem d_Md_crash_13 : decode b_Md_crash 13 = .ok (.getfield 43, 3) := by decide +kernel
theorem d_Md_crash_16 : decode b_Md_crash 16 = .ok (.ifCond .eq 15, 3) := by decide +kernel
theorem d_Md_crash_19 : decode b_Md_crash 19 = .ok (.iload_n 1, 1) := by decide +kernel
theorem d_Md_crash_20 : decode b_Md_crash 20 = .ok (.ifCond .lt 11, 3) := by decide +kernel
theorem d_Md_crash_23 : decode b_Md_crash 23 = .ok (.iload_n 1, 1) := by decide +kernel
theorem d_Md_crash_24 : decode b_Md_crash 24 = .ok (.aload_n 0, 1) := by decide +kernel
theorem d_Md_crash_25 : decode b_Md_crash 25 = .ok (.getfield 43, 3) := by decide +kernel
theorem d_Md_crash_28 : decode b_Md_crash 28 = .ok (.if_icmp .le 5, 3) := by decide +kernel
theorem d_Md_crash_31 : decode b_Md_crash 31 = .ok (.iconst 0, 1) := by decide +kernel
theorem d_Md_crash_32 : decode b_Md_crash 32 = .ok (.ireturn, 1) := by decide +kernel
theorem d_Md_crash_33 : decode b_Md_crash 33 = .ok (.aload_n 0, 1) := by decide +kernel
theorem d_Md_crash_34 : decode b_Md_crash 34 = .ok (.getfield 43, 3) := by decide +kernel
theorem d_Md_crash_37 : decode b_Md_crash 37 = .ok (.iconst 1, 1) := by decide +kernel
theorem d_Md_crash_38 : decode b_Md_crash 38 = .ok (.isub, 1) := by decide +kernel
theorem d_Md_crash_39 : decode b_Md_crash 39 = .ok (.istore_n 2, 1) := by decide +kernel
theorem d_Md_crash_40 : decode b_Md_crash 40 = .ok (.iload_n 2, 1) := by decide +kernel
theorem d_Md_crash_41 : decode b_Md_crash 41 = .ok (.iload_n 1, 1) := by decide +kernel
theorem d_Md_crash_42 : decode b_Md_crash 42 = .ok (.if_icmp .lt 26, 3) := by decide +kernel
theorem d_Md_crash_45 : decode b_Md_crash 45 = .ok (.aload_n 0, 1) := by decide +kernel
theorem d_Md_crash_46 : decode b_Md_crash 46 = .ok (.getfield 7, 3) := by decide +kernel
theorem d_Md_crash_49 : decode b_Md_crash 49 = .ok (.aload_n 0, 1) := by decide +kernel
theorem d_Md_crash_50 : decode b_Md_crash 50 = .ok (.getfield 19, 3) := by decide +kernel
theorem d_Md_crash_53 : decode b_Md_crash 53 = .ok (.iload_n 2, 1) := by decide +kernel
theorem d_Md_crash_54 : decode b_Md_crash 54 = .ok (.iaload, 1) := by decide +kernel
theorem d_Md_crash_55 : decode b_Md_crash 55 = .ok (.aload_n 0, 1) := by decide +kernel
theorem d_Md_crash_56 : decode b_Md_crash 56 = .ok (.getfield 22, 3) := by decide +kernel
theorem d_Md_crash_59 : decode b_Md_crash 59 = .ok (.iload_n 2, 1) := by decide +kernel
theorem d_Md_crash_60 : decode b_Md_crash 60 = .ok (.iaload, 1) := by decide +kernel
theorem d_Md_crash_61 : decode b_Md_crash 61 = .ok (.iastore, 1) := by decide +kernel
theorem d_Md_crash_62 : decode b_Md_crash 62 = .ok (.iinc 2 (-1), 3) := by decide +kernel
theorem d_Md_crash_65 : decode b_Md_crash 65 = .ok (.goto (-25), 3) := by decide +kernel
theorem d_Md_crash_68 : decode b_Md_crash 68 = .ok (.aload_n 0, 1) := by decide +kernel
theorem d_Md_crash_69 : decode b_Md_crash 69 = .ok (.iconst 0, 1) := by decide +kernel
theorem d_Md_crash_70 : decode b_Md_crash 70 = .ok (.putfield 32, 3) := by decide +kernel
theorem d_Md_crash_73 : decode b_Md_crash 73 = .ok (.iconst 1, 1) := by decide +kernel
theorem d_Md_crash_74 : decode b_Md_crash 74 = .ok (.ireturn, 1) := by decide +kernel
theorem d_Md_reopen_0 : decode b_Md_reopen 0 = .ok (.aload_n 0, 1) := by decide +kernel
theorem d_Md_reopen_1 : decode b_Md_reopen 1 = .ok (.iconst 0, 1) := by decide +kernel
theorem d_Md_reopen_2 : decode b_Md_reopen 2 = .ok (.putfield 46, 3) := by decide +kernel
theorem d_Md_reopen_5 : decode b_Md_reopen 5 = .ok (.aload_n 0, 1) := by decide +kernel
theorem d_Md_reopen_6 : decode b_Md_reopen 6 = .ok (.iconst 0, 1) := by decide +kernel
theorem d_Md_reopen_7 : decode b_Md_reopen 7 = .ok (.putfield 32, 3) := by decide +kernel
theorem d_Md_reopen_10 : decode b_Md_reopen 10 = .ok (.aload_n 0, 1) := by decide +kernel
theorem d_Md_reopen_11 : decode b_Md_reopen 11 = .ok (.iconst 0, 1) := by decide +kernel
theorem d_Md_reopen_12 : decode b_Md_reopen 12 = .ok (.putfield 43, 3) := by decide +kernel
theorem d_Md_reopen_15 : decode b_Md_reopen 15 = .ok (.aload_n 0, 1) := by decide +kernel
theorem d_Md_reopen_16 : decode b_Md_reopen 16 = .ok (.getfield 7, 3) := by decide +kernel
theorem d_Md_reopen_19 : decode b_Md_reopen 19 = .ok (.iconst 0, 1) := by decide +kernel
theorem d_Md_reopen_20 : decode b_Md_reopen 20 = .ok (.iaload, 1) := by decide +kernel
theorem d_Md_reopen_21 : decode b_Md_reopen 21 = .ok (.istore_n 1, 1) := by decide +kernel
theorem d_Md_reopen_22 : decode b_Md_reopen 22 = .ok (.iload_n 1, 1) := by decide +kernel
theorem d_Md_reopen_23 : decode b_Md_reopen 23 = .ok (.iconst 1, 1) := by decide +kernel
theorem d_Md_reopen_24 : decode b_Md_reopen 24 = .ok (.if_icmp .eq 10, 3) := by decide +kernel
theorem d_Md_reopen_27 : decode b_Md_reopen 27 = .ok (.iload_n 1, 1) := by decide +kernel
theorem d_Md_reopen_28 : decode b_Md_reopen 28 = .ok (.iconst 2, 1) := by decide +kernel
theorem d_Md_reopen_29 : decode b_Md_reopen 29 = .ok (.if_icmp .eq 5, 3) := by decide +kernel
theorem d_Md_reopen_32 : decode b_Md_reopen 32 = .ok (.iconst (-1), 1) := by decide +kernel
theorem d_Md_reopen_33 : decode b_Md_reopen 33 = .ok (.ireturn, 1) := by decide +kernel
theorem d_Md_reopen_34 : decode b_Md_reopen 34 = .ok (.aload_n 0, 1) := by decide +kernel
theorem d_Md_reopen_35 : decode b_Md_reopen 35 = .ok (.iload_n 1, 1) := by decide +kernel
theorem d_Md_reopen_36 : decode b_Md_reopen 36 = .ok (.invokevirtual 91, 3) := by decide +kernel
theorem d_Md_reopen_39 : decode b_Md_reopen 39 = .ok (.ifCond .ne 7, 3) := by decide +kernel
theorem d_Md_reopen_42 : decode b_Md_reopen 42 = .ok (.iconst (-1), 1) := by decide +kernel
theorem d_Md_reopen_43 : decode b_Md_reopen 43 = .ok (.iload_n 1, 1) := by decide +kernel
theorem d_Md_reopen_44 : decode b_Md_reopen 44 = .ok (.isub, 1) := by decide +kernel
theorem d_Md_reopen_45 : decode b_Md_reopen 45 = .ok (.ireturn, 1) := by decide +kernel
theorem d_Md_reopen_46 : decode b_Md_reopen 46 = .ok (.aload_n 0, 1) := by decide +kernel
theorem d_Md_reopen_47 : decode b_Md_reopen 47 = .ok (.getfield 7, 3) := by decide +kernel
theorem d_Md_reopen_50 : decode b_Md_reopen 50 = .ok (.bipush 64, 2) := by decide +kernel
theorem d_Md_reopen_52 : decode b_Md_reopen 52 = .ok (.iload_n 1, 1) := by decide +kernel
theorem d_Md_reopen_53 : decode b_Md_reopen 53 = .ok (.imul, 1) := by decide +kernel
theorem d_Md_reopen_54 : decode b_Md_reopen 54 = .ok (.iaload, 1) := by decide +kernel
theorem d_Md_reopen_55 : decode b_Md_reopen 55 = .ok (.istore_n 2, 1) := by decide +kernel
theorem d_Md_reopen_56 : decode b_Md_reopen 56 = .ok (.sipush 1000, 3) := by decide +kernel
theorem d_Md_reopen_59 : decode b_Md_reopen 59 = .ok (.istore_n 3, 1) := by decide +kernel
theorem d_Md_reopen_60 : decode b_Md_reopen 60 = .ok (.iconst 0, 1) := by decide +kernel
theorem d_Md_reopen_61 : decode b_Md_reopen 61 = .ok (.istore 4, 2) := by decide +kernel
theorem d_Md_reopen_63 : decode b_Md_reopen 63 = .ok (.iload 4, 2) := by decide +kernel
theorem d_Md_reopen_65 : decode b_Md_reopen 65 = .ok (.iload_n 2, 1) := by decide +kernel
theorem d_Md_reopen_66 : decode b_Md_reopen 66 = .ok (.if_icmp .ge 43, 3) := by decide +kernel
theorem d_Md_reopen_69 : decode b_Md_reopen 69 = .ok (.aload_n 0, 1) := by decide +kernel
theorem d_Md_reopen_70 : decode b_Md_reopen 70 = .ok (.getfield 7, 3) := by decide +kernel
theorem d_Md_reopen_73 : decode b_Md_reopen 73 = .ok (.bipush 64, 2) := by decide +kernel
theorem d_Md_reopen_75 : decode b_Md_reopen 75 = .ok (.iload_n 1, 1) := by decide +kernel
theorem d_Md_reopen_76 : decode b_Md_reopen 76 = .ok (.imul, 1) := by decide +kernel
theorem d_Md_reopen_77 : decode b_Md_reopen 77 = .ok (.iconst 1, 1) := by decide +kernel
theorem d_Md_reopen_78 : decode b_Md_reopen 78 = .ok (.iadd, 1) := by decide +kernel
theorem d_Md_reopen_79 : decode b_Md_reopen 79 = .ok (.iload 4, 2) := by decide +kernel
theorem d_Md_reopen_81 : decode b_Md_reopen 81 = .ok (.iadd, 1) := by decide +kernel
theorem d_Md_reopen_82 : decode b_Md_reopen 82 = .ok (.iaload, 1) := by decide +kernel
theorem d_Md_reopen_83 : decode b_Md_reopen 83 = .ok (.istore 5, 2) := by decide +kernel
theorem d_Md_reopen_85 : decode b_Md_reopen 85 = .ok (.aload_n 0, 1) := by decide +kernel
theorem d_Md_reopen_86 : decode b_Md_reopen 86 = .ok (.iload 5, 2) := by decide +kernel
theorem d_Md_reopen_88 : decode b_Md_reopen 88 = .ok (.invokevirtual 94, 3) := by decide +kernel
theorem d_Md_reopen_91 : decode b_Md_reopen 91 = .ok (.ifCond .ne 12, 3) := by decide +kernel
theorem d_Md_reopen_94 : decode b_Md_reopen 94 = .ok (.iload 5, 2) := by decide +kernel
theorem d_Md_reopen_96 : decode b_Md_reopen 96 = .ok (.iload_n 3, 1) := by decide +kernel
theorem d_Md_reopen_97 : decode b_Md_reopen 97 = .ok (.if_icmp .ge 6, 3) := by decide +kernel
theorem d_Md_reopen_100 : decode b_Md_reopen 100 = .ok (.iload 5, 2) := by decide +kernel
theorem d_Md_reopen_102 : decode b_Md_reopen 102 = .ok (.istore_n 3, 1) := by decide +kernel
theorem d_Md_reopen_103 : decode b_Md_reopen 103 = .ok (.iinc 4 1, 3) := by decide +kernel
theorem d_Md_reopen_106 : decode b_Md_reopen 106 = .ok (.goto (-43), 3) := by decide +kernel
theorem d_Md_reopen_109 : decode b_Md_reopen 109 = .ok (.iload_n 3, 1) := by decide +kernel
theorem d_Md_reopen_110 : decode b_Md_reopen 110 = .ok (.sipush 1000, 3) := by decide +kernel
theorem d_Md_reopen_113 : decode b_Md_reopen 113 = .ok (.if_icmp .ge 7, 3) := by decide +kernel
theorem d_Md_reopen_116 : decode b_Md_reopen 116 = .ok (.iconst (-1), 1) := by decide +kernel
theorem d_Md_reopen_117 : decode b_Md_reopen 117 = .ok (.iload_n 3, 1) := by decide +kernel
theorem d_Md_reopen_118 : decode b_Md_reopen 118 = .ok (.isub, 1) := by decide +kernel
theorem d_Md_reopen_119 : decode b_Md_reopen 119 = .ok (.ireturn, 1) := by decide +kernel
theorem d_Md_reopen_120 : decode b_Md_reopen 120 = .ok (.aload_n 0, 1) := by decide +kernel
theorem d_Md_reopen_121 : decode b_Md_reopen 121 = .ok (.iload_n 1, 1) := by decide +kernel
theorem d_Md_reopen_122 : decode b_Md_reopen 122 = .ok (.putfield 29, 3) := by decide +kernel
theorem d_Md_reopen_125 : decode b_Md_reopen 125 = .ok (.aload_n 0, 1) := by decide +kernel
theorem d_Md_reopen_126 : decode b_Md_reopen 126 = .ok (.iload_n 2, 1) := by decide +kernel
theorem d_Md_reopen_127 : decode b_Md_reopen 127 = .ok (.putfield 54, 3) := by decide +kernel
theorem d_Md_reopen_130 : decode b_Md_reopen 130 = .ok (.iconst 0, 1) := by decide +kernel
theorem d_Md_reopen_131 : decode b_Md_reopen 131 = .ok (.istore 4, 2) := by decide +kernel
theorem d_Md_reopen_133 : decode b_Md_reopen 133 = .ok (.iload 4, 2) := by decide +kernel
theorem d_Md_reopen_135 : decode b_Md_reopen 135 = .ok (.iload_n 2, 1) := by decide +kernel
theorem d_Md_reopen_136 : decode b_Md_reopen 136 = .ok (.if_icmp .ge 30, 3) := by decide +kernel
theorem d_Md_reopen_139 : decode b_Md_reopen 139 = .ok (.aload_n 0, 1) := by decide +kernel
theorem d_Md_reopen_140 : decode b_Md_reopen 140 = .ok (.getfield 13, 3) := by decide +kernel
theorem d_Md_reopen_143 : decode b_Md_reopen 143 = .ok (.iload 4, 2) := by decide +kernel
theorem d_Md_reopen_145 : decode b_Md_reopen 145 = .ok (.aload_n 0, 1) := by decide +kernel
theorem d_Md_reopen_146 : decode b_Md_reopen 146 = .ok (.getfield 7, 3) := by decide +kernel
theorem d_Md_reopen_149 : decode b_Md_reopen 149 = .ok (.bipush 64, 2) := by decide +kernel
theorem d_Md_reopen_151 : decode b_Md_reopen 151 = .ok (.iload_n 1, 1) := by decide +kernel
theorem d_Md_reopen_152 : decode b_Md_reopen 152 = .ok (.imul, 1) := by decide +kernel
theorem d_Md_reopen_153 : decode b_Md_reopen 153 = .ok (.iconst 1, 1) := by decide +kernel
theorem d_Md_reopen_154 : decode b_Md_reopen 154 = .ok (.iadd, 1) := by decide +kernel
theorem d_Md_reopen_155 : decode b_Md_reopen 155 = .ok (.iload 4, 2) := by decide +kernel
theorem d_Md_reopen_157 : decode b_Md_reopen 157 = .ok (.iadd, 1) := by decide +kernel
theorem d_Md_reopen_158 : decode b_Md_reopen 158 = .ok (.iaload, 1) := by decide +kernel
theorem d_Md_reopen_159 : decode b_Md_reopen 159 = .ok (.iastore, 1) := by decide +kernel
theorem d_Md_reopen_160 : decode b_Md_reopen 160 = .ok (.iinc 4 1, 3) := by decide +kernel
theorem d_Md_reopen_163 : decode b_Md_reopen 163 = .ok (.goto (-30), 3) := by decide +kernel
theorem d_Md_reopen_166 : decode b_Md_reopen 166 = .ok (.aload_n 0, 1) := by decide +kernel
theorem d_Md_reopen_167 : decode b_Md_reopen 167 = .ok (.iconst 1, 1) := by decide +kernel
theorem d_Md_reopen_168 : decode b_Md_reopen 168 = .ok (.putfield 32, 3) := by decide +kernel
theorem d_Md_reopen_171 : decode b_Md_reopen 171 = .ok (.iload_n 2, 1) := by decide +kernel
theorem d_Md_reopen_172 : decode b_Md_reopen 172 = .ok (.ireturn, 1) := by decide +kernel
theorem d_Md_rootIsRight_0 : decode b_Md_rootIsRight 0 = .ok (.aload_n 0, 1) := by decide +kernel
theorem d_Md_rootIsRight_1 : decode b_Md_rootIsRight 1 = .ok (.getfield 7, 3) := by decide +kernel
theorem d_Md_rootIsRight_4 : decode b_Md_rootIsRight 4 = .ok (.bipush 64, 2) := by decide +kernel
theorem d_Md_rootIsRight_6 : decode b_Md_rootIsRight 6 = .ok (.iload_n 1, 1) := by decide +kernel
theorem d_Md_rootIsRight_7 : decode b_Md_rootIsRight 7 = .ok (.imul, 1) := by decide +kernel
theorem d_Md_rootIsRight_8 : decode b_Md_rootIsRight 8 = .ok (.iaload, 1) := by decide +kernel
theorem d_Md_rootIsRight_9 : decode b_Md_rootIsRight 9 = .ok (.istore_n 2, 1) := by decide +kernel
theorem d_Md_rootIsRight_10 : decode b_Md_rootIsRight 10 = .ok (.aload_n 0, 1) := by decide +kernel
theorem d_Md_rootIsRight_11 : decode b_Md_rootIsRight 11 = .ok (.iload_n 1, 1) := by decide +kernel
theorem d_Md_rootIsRight_12 : decode b_Md_rootIsRight 12 = .ok (.invokevirtual 88, 3) := by decide +kernel
theorem d_Md_rootIsRight_15 : decode b_Md_rootIsRight 15 = .ok (.ifCond .eq 9, 3) := by decide +kernel
theorem d_Md_rootIsRight_18 : decode b_Md_rootIsRight 18 = .ok (.iload_n 2, 1) := by decide +kernel
theorem d_Md_rootIsRight_19 : decode b_Md_rootIsRight 19 = .ok (.bipush 40, 2) := by decide +kernel
theorem d_Md_rootIsRight_21 : decode b_Md_rootIsRight 21 = .ok (.if_icmp .le 5, 3) := by decide +kernel
theorem d_Md_rootIsRight_24 : decode b_Md_rootIsRight 24 = .ok (.iconst 0, 1) := by decide +kernel
theorem d_Md_rootIsRight_25 : decode b_Md_rootIsRight 25 = .ok (.ireturn, 1) := by decide +kernel
theorem d_Md_rootIsRight_26 : decode b_Md_rootIsRight 26 = .ok (.iconst 1, 1) := by decide +kernel
theorem d_Md_rootIsRight_27 : decode b_Md_rootIsRight 27 = .ok (.istore_n 3, 1) := by decide +kernel
theorem d_Md_rootIsRight_28 : decode b_Md_rootIsRight 28 = .ok (.iload_n 3, 1) := by decide +kernel
theorem d_Md_rootIsRight_29 : decode b_Md_rootIsRight 29 = .ok (.iload_n 2, 1) := by decide +kernel
theorem d_Md_rootIsRight_30 : decode b_Md_rootIsRight 30 = .ok (.if_icmp .gt 73, 3) := by decide +kernel
theorem d_Md_rootIsRight_33 : decode b_Md_rootIsRight 33 = .ok (.aload_n 0, 1) := by decide +kernel
theorem d_Md_rootIsRight_34 : decode b_Md_rootIsRight 34 = .ok (.getfield 7, 3) := by decide +kernel
theorem d_Md_rootIsRight_37 : decode b_Md_rootIsRight 37 = .ok (.bipush 64, 2) := by decide +kernel
theorem d_Md_rootIsRight_39 : decode b_Md_rootIsRight 39 = .ok (.iload_n 1, 1) := by decide +kernel
theorem d_Md_rootIsRight_40 : decode b_Md_rootIsRight 40 = .ok (.imul, 1) := by decide +kernel
theorem d_Md_rootIsRight_41 : decode b_Md_rootIsRight 41 = .ok (.iload_n 3, 1) := by decide +kernel
theorem d_Md_rootIsRight_42 : decode b_Md_rootIsRight 42 = .ok (.iadd, 1) := by decide +kernel
theorem d_Md_rootIsRight_43 : decode b_Md_rootIsRight 43 = .ok (.iaload, 1) := by decide +kernel
theorem d_Md_rootIsRight_44 : decode b_Md_rootIsRight 44 = .ok (.istore 4, 2) := by decide +kernel
theorem d_Md_rootIsRight_46 : decode b_Md_rootIsRight 46 = .ok (.iload 4, 2) := by decide +kernel
theorem d_Md_rootIsRight_48 : decode b_Md_rootIsRight 48 = .ok (.iconst 3, 1) := by decide +kernel
theorem d_Md_rootIsRight_49 : decode b_Md_rootIsRight 49 = .ok (.if_icmp .lt 12, 3) := by decide +kernel
theorem d_Md_rootIsRight_52 : decode b_Md_rootIsRight 52 = .ok (.iload 4, 2) := by decide +kernel
theorem d_Md_rootIsRight_54 : decode b_Md_rootIsRight 54 = .ok (.aload_n 0, 1) := by decide +kernel
theorem d_Md_rootIsRight_55 : decode b_Md_rootIsRight 55 = .ok (.getfield 25, 3) := by decide +kernel
theorem d_Md_rootIsRight_58 : decode b_Md_rootIsRight 58 = .ok (.if_icmp .lt 5, 3) := by decide +kernel
theorem d_Md_rootIsRight_61 : decode b_Md_rootIsRight 61 = .ok (.iconst 0, 1) := by decide +kernel
theorem d_Md_rootIsRight_62 : decode b_Md_rootIsRight 62 = .ok (.ireturn, 1) := by decide +kernel
theorem d_Md_rootIsRight_63 : decode b_Md_rootIsRight 63 = .ok (.iconst 1, 1) := by decide +kernel
theorem d_Md_rootIsRight_64 : decode b_Md_rootIsRight 64 = .ok (.istore 5, 2) := by decide +kernel
theorem d_Md_rootIsRight_66 : decode b_Md_rootIsRight 66 = .ok (.iload 5, 2) := by decide +kernel
theorem d_Md_rootIsRight_68 : decode b_Md_rootIsRight 68 = .ok (.iload_n 3, 1) := by decide +kernel
theorem d_Md_rootIsRight_69 : decode b_Md_rootIsRight 69 = .ok (.if_icmp .ge 28, 3) := by decide +kernel
theorem d_Md_rootIsRight_72 : decode b_Md_rootIsRight 72 = .ok (.aload_n 0, 1) := by decide +kernel
theorem d_Md_rootIsRight_73 : decode b_Md_rootIsRight 73 = .ok (.getfield 7, 3) := by decide +kernel
theorem d_Md_rootIsRight_76 : decode b_Md_rootIsRight 76 = .ok (.bipush 64, 2) := by decide +kernel
theorem d_Md_rootIsRight_78 : decode b_Md_rootIsRight 78 = .ok (.iload_n 1, 1) := by decide +kernel
theorem d_Md_rootIsRight_79 : decode b_Md_rootIsRight 79 = .ok (.imul, 1) := by decide +kernel
theorem d_Md_rootIsRight_80 : decode b_Md_rootIsRight 80 = .ok (.iload 5, 2) := by decide +kernel
theorem d_Md_rootIsRight_82 : decode b_Md_rootIsRight 82 = .ok (.iadd, 1) := by decide +kernel
theorem d_Md_rootIsRight_83 : decode b_Md_rootIsRight 83 = .ok (.iaload, 1) := by decide +kernel
theorem d_Md_rootIsRight_84 : decode b_Md_rootIsRight 84 = .ok (.iload 4, 2) := by decide +kernel
theorem d_Md_rootIsRight_86 : decode b_Md_rootIsRight 86 = .ok (.if_icmp .ne 5, 3) := by decide +kernel
theorem d_Md_rootIsRight_89 : decode b_Md_rootIsRight 89 = .ok (.iconst 0, 1) := by decide +kernel
theorem d_Md_rootIsRight_90 : decode b_Md_rootIsRight 90 = .ok (.ireturn, 1) := by decide +kernel
theorem d_Md_rootIsRight_91 : decode b_Md_rootIsRight 91 = .ok (.iinc 5 1, 3) := by decide +kernel
theorem d_Md_rootIsRight_94 : decode b_Md_rootIsRight 94 = .ok (.goto (-28), 3) := by decide +kernel
theorem d_Md_rootIsRight_97 : decode b_Md_rootIsRight 97 = .ok (.iinc 3 1, 3) := by decide +kernel
theorem d_Md_rootIsRight_100 : decode b_Md_rootIsRight 100 = .ok (.goto (-72), 3) := by decide +kernel
theorem d_Md_rootIsRight_103 : decode b_Md_rootIsRight 103 = .ok (.iconst 1, 1) := by decide +kernel
theorem d_Md_rootIsRight_104 : decode b_Md_rootIsRight 104 = .ok (.ireturn, 1) := by decide +kernel
theorem d_Md_isRight_0 : decode b_Md_isRight 0 = .ok (.aload_n 0, 1) := by decide +kernel
theorem d_Md_isRight_1 : decode b_Md_isRight 1 = .ok (.iload_n 1, 1) := by decide +kernel
theorem d_Md_isRight_2 : decode b_Md_isRight 2 = .ok (.invokevirtual 50, 3) := by decide +kernel
theorem d_Md_isRight_5 : decode b_Md_isRight 5 = .ok (.istore_n 2, 1) := by decide +kernel
theorem d_Md_isRight_6 : decode b_Md_isRight 6 = .ok (.iconst 0, 1) := by decide +kernel
theorem d_Md_isRight_7 : decode b_Md_isRight 7 = .ok (.istore_n 3, 1) := by decide +kernel
theorem d_Md_isRight_8 : decode b_Md_isRight 8 = .ok (.iload_n 3, 1) := by decide +kernel
theorem d_Md_isRight_9 : decode b_Md_isRight 9 = .ok (.iconst 4, 1) := by decide +kernel
theorem d_Md_isRight_10 : decode b_Md_isRight 10 = .ok (.if_icmp .ge 38, 3) := by decide +kernel
theorem d_Md_isRight_13 : decode b_Md_isRight 13 = .ok (.aload_n 0, 1) := by decide +kernel
theorem d_Md_isRight_14 : decode b_Md_isRight 14 = .ok (.getfield 7, 3) := by decide +kernel
theorem d_Md_isRight_17 : decode b_Md_isRight 17 = .ok (.bipush 64, 2) := by decide +kernel
theorem d_Md_isRight_19 : decode b_Md_isRight 19 = .ok (.iload_n 1, 1) := by decide +kernel
theorem d_Md_isRight_20 : decode b_Md_isRight 20 = .ok (.imul, 1) := by decide +kernel
theorem d_Md_isRight_21 : decode b_Md_isRight 21 = .ok (.bipush 60, 2) := by decide +kernel
theorem d_Md_isRight_23 : decode b_Md_isRight 23 = .ok (.iadd, 1) := by decide +kernel
theorem d_Md_isRight_24 : decode b_Md_isRight 24 = .ok (.iload_n 3, 1) := by decide +kernel
theorem d_Md_isRight_25 : decode b_Md_isRight 25 = .ok (.iadd, 1) := by decide +kernel
theorem d_Md_isRight_26 : decode b_Md_isRight 26 = .ok (.iaload, 1) := by decide +kernel
theorem d_Md_isRight_27 : decode b_Md_isRight 27 = .ok (.iload_n 2, 1) := by decide +kernel
theorem d_Md_isRight_28 : decode b_Md_isRight 28 = .ok (.bipush 8, 2) := by decide +kernel
theorem d_Md_isRight_30 : decode b_Md_isRight 30 = .ok (.iload_n 3, 1) := by decide +kernel
theorem d_Md_isRight_31 : decode b_Md_isRight 31 = .ok (.imul, 1) := by decide +kernel
theorem d_Md_isRight_32 : decode b_Md_isRight 32 = .ok (.iushr, 1) := by decide +kernel
theorem d_Md_isRight_33 : decode b_Md_isRight 33 = .ok (.sipush 255, 3) := by decide +kernel
theorem d_Md_isRight_36 : decode b_Md_isRight 36 = .ok (.iand, 1) := by decide +kernel
theorem d_Md_isRight_37 : decode b_Md_isRight 37 = .ok (.if_icmp .eq 5, 3) := by decide +kernel
theorem d_Md_isRight_40 : decode b_Md_isRight 40 = .ok (.iconst 0, 1) := by decide +kernel
theorem d_Md_isRight_41 : decode b_Md_isRight 41 = .ok (.ireturn, 1) := by decide +kernel
theorem d_Md_isRight_42 : decode b_Md_isRight 42 = .ok (.iinc 3 1, 3) := by decide +kernel
theorem d_Md_isRight_45 : decode b_Md_isRight 45 = .ok (.goto (-37), 3) := by decide +kernel
theorem d_Md_isRight_48 : decode b_Md_isRight 48 = .ok (.iconst 1, 1) := by decide +kernel
theorem d_Md_isRight_49 : decode b_Md_isRight 49 = .ok (.ireturn, 1) := by decide +kernel
theorem d_Md_entryIsRight_0 : decode b_Md_entryIsRight 0 = .ok (.aload_n 0, 1) := by decide +kernel
theorem d_Md_entryIsRight_1 : decode b_Md_entryIsRight 1 = .ok (.getfield 7, 3) := by decide +kernel
theorem d_Md_entryIsRight_4 : decode b_Md_entryIsRight 4 = .ok (.bipush 64, 2) := by decide +kernel
theorem d_Md_entryIsRight_6 : decode b_Md_entryIsRight 6 = .ok (.iload_n 1, 1) := by decide +kernel
theorem d_Md_entryIsRight_7 : decode b_Md_entryIsRight 7 = .ok (.imul, 1) := by decide +kernel
theorem d_Md_entryIsRight_8 : decode b_Md_entryIsRight 8 = .ok (.iconst 2, 1) := by decide +kernel
theorem d_Md_entryIsRight_9 : decode b_Md_entryIsRight 9 = .ok (.iadd, 1) := by decide +kernel
theorem d_Md_entryIsRight_10 : decode b_Md_entryIsRight 10 = .ok (.iaload, 1) := by decide +kernel
theorem d_Md_entryIsRight_11 : decode b_Md_entryIsRight 11 = .ok (.istore_n 2, 1) := by decide +kernel
theorem d_Md_entryIsRight_12 : decode b_Md_entryIsRight 12 = .ok (.aload_n 0, 1) := by decide +kernel
theorem d_Md_entryIsRight_13 : decode b_Md_entryIsRight 13 = .ok (.iload_n 1, 1) := by decide +kernel
theorem d_Md_entryIsRight_14 : decode b_Md_entryIsRight 14 = .ok (.invokevirtual 88, 3) := by decide +kernel
theorem d_Md_entryIsRight_17 : decode b_Md_entryIsRight 17 = .ok (.ifCond .eq 18, 3) := by decide +kernel
theorem d_Md_entryIsRight_20 : decode b_Md_entryIsRight 20 = .ok (.iload_n 2, 1) := by decide +kernel
theorem d_Md_entryIsRight_21 : decode b_Md_entryIsRight 21 = .ok (.iconst 1, 1) := by decide +kernel
theorem d_Md_entryIsRight_22 : decode b_Md_entryIsRight 22 = .ok (.if_icmp .lt 13, 3) := by decide +kernel
theorem d_Md_entryIsRight_25 : decode b_Md_entryIsRight 25 = .ok (.iload_n 2, 1) := by decide +kernel
theorem d_Md_entryIsRight_26 : decode b_Md_entryIsRight 26 = .ok (.bipush 48, 2) := by decide +kernel
theorem d_Md_entryIsRight_28 : decode b_Md_entryIsRight 28 = .ok (.if_icmp .gt 7, 3) := by decide +kernel
theorem d_Md_entryIsRight_31 : decode b_Md_entryIsRight 31 = .ok (.iconst 1, 1) := by decide +kernel
theorem d_Md_entryIsRight_32 : decode b_Md_entryIsRight 32 = .ok (.goto 4, 3) := by decide +kernel
theorem d_Md_entryIsRight_35 : decode b_Md_entryIsRight 35 = .ok (.iconst 0, 1) := by decide +kernel
theorem d_Md_entryIsRight_36 : decode b_Md_entryIsRight 36 = .ok (.ireturn, 1) := by decide +kernel
theorem d_Md_poke_0 : decode b_Md_poke 0 = .ok (.aload_n 0, 1) := by decide +kernel
theorem d_Md_poke_1 : decode b_Md_poke 1 = .ok (.iconst 0, 1) := by decide +kernel
theorem d_Md_poke_2 : decode b_Md_poke 2 = .ok (.putfield 46, 3) := by decide +kernel
theorem d_Md_poke_5 : decode b_Md_poke 5 = .ok (.aload_n 0, 1) := by decide +kernel
theorem d_Md_poke_6 : decode b_Md_poke 6 = .ok (.iload_n 1, 1) := by decide +kernel
theorem d_Md_poke_7 : decode b_Md_poke 7 = .ok (.iload_n 2, 1) := by decide +kernel
theorem d_Md_poke_8 : decode b_Md_poke 8 = .ok (.invokevirtual 97, 3) := by decide +kernel
theorem d_Md_poke_11 : decode b_Md_poke 11 = .ok (.ifCond .eq 15, 3) := by decide +kernel
theorem d_Md_poke_14 : decode b_Md_poke 14 = .ok (.iload_n 3, 1) := by decide +kernel
theorem d_Md_poke_15 : decode b_Md_poke 15 = .ok (.iconst 1, 1) := by decide +kernel
theorem d_Md_poke_16 : decode b_Md_poke 16 = .ok (.if_icmp .lt 10, 3) := by decide +kernel
theorem d_Md_poke_19 : decode b_Md_poke 19 = .ok (.iload_n 3, 1) := by decide +kernel
theorem d_Md_poke_20 : decode b_Md_poke 20 = .ok (.sipush 255, 3) := by decide +kernel
theorem d_Md_poke_23 : decode b_Md_poke 23 = .ok (.if_icmp .le 5, 3) := by decide +kernel
theorem d_Md_poke_26 : decode b_Md_poke 26 = .ok (.iconst 0, 1) := by decide +kernel
theorem d_Md_poke_27 : decode b_Md_poke 27 = .ok (.ireturn, 1) := by decide +kernel
theorem d_Md_poke_28 : decode b_Md_poke 28 = .ok (.aload_n 0, 1) := by decide +kernel
theorem d_Md_poke_29 : decode b_Md_poke 29 = .ok (.getfield 7, 3) := by decide +kernel
theorem d_Md_poke_32 : decode b_Md_poke 32 = .ok (.bipush 64, 2) := by decide +kernel
theorem d_Md_poke_34 : decode b_Md_poke 34 = .ok (.iload_n 1, 1) := by decide +kernel
theorem d_Md_poke_35 : decode b_Md_poke 35 = .ok (.imul, 1) := by decide +kernel
theorem d_Md_poke_36 : decode b_Md_poke 36 = .ok (.iload_n 2, 1) := by decide +kernel
theorem d_Md_poke_37 : decode b_Md_poke 37 = .ok (.iadd, 1) := by decide +kernel
theorem d_Md_poke_38 : decode b_Md_poke 38 = .ok (.dup2, 1) := by decide +kernel
theorem d_Md_poke_39 : decode b_Md_poke 39 = .ok (.iaload, 1) := by decide +kernel
theorem d_Md_poke_40 : decode b_Md_poke 40 = .ok (.iload_n 3, 1) := by decide +kernel
theorem d_Md_poke_41 : decode b_Md_poke 41 = .ok (.ixor, 1) := by decide +kernel
theorem d_Md_poke_42 : decode b_Md_poke 42 = .ok (.iastore, 1) := by decide +kernel
theorem d_Md_poke_43 : decode b_Md_poke 43 = .ok (.iconst 1, 1) := by decide +kernel
theorem d_Md_poke_44 : decode b_Md_poke 44 = .ok (.ireturn, 1) := by decide +kernel
theorem d_Md_isByte_0 : decode b_Md_isByte 0 = .ok (.iload_n 1, 1) := by decide +kernel
theorem d_Md_isByte_1 : decode b_Md_isByte 1 = .ok (.ifCond .lt 25, 3) := by decide +kernel
theorem d_Md_isByte_4 : decode b_Md_isByte 4 = .ok (.iload_n 1, 1) := by decide +kernel
theorem d_Md_isByte_5 : decode b_Md_isByte 5 = .ok (.aload_n 0, 1) := by decide +kernel
theorem d_Md_isByte_6 : decode b_Md_isByte 6 = .ok (.getfield 25, 3) := by decide +kernel
theorem d_Md_isByte_9 : decode b_Md_isByte 9 = .ok (.if_icmp .ge 17, 3) := by decide +kernel
theorem d_Md_isByte_12 : decode b_Md_isByte 12 = .ok (.iload_n 2, 1) := by decide +kernel
theorem d_Md_isByte_13 : decode b_Md_isByte 13 = .ok (.ifCond .lt 13, 3) := by decide +kernel
theorem d_Md_isByte_16 : decode b_Md_isByte 16 = .ok (.iload_n 2, 1) := by decide +kernel
theorem d_Md_isByte_17 : decode b_Md_isByte 17 = .ok (.bipush 64, 2) := by decide +kernel
theorem d_Md_isByte_19 : decode b_Md_isByte 19 = .ok (.if_icmp .ge 7, 3) := by decide +kernel
theorem d_Md_isByte_22 : decode b_Md_isByte 22 = .ok (.iconst 1, 1) := by decide +kernel
theorem d_Md_isByte_23 : decode b_Md_isByte 23 = .ok (.goto 4, 3) := by decide +kernel
theorem d_Md_isByte_26 : decode b_Md_isByte 26 = .ok (.iconst 0, 1) := by decide +kernel
theorem d_Md_isByte_27 : decode b_Md_isByte 27 = .ok (.ireturn, 1) := by decide +kernel
theorem d_Md_badAt_0 : decode b_Md_badAt 0 = .ok (.aload_n 0, 1) := by decide +kernel
theorem d_Md_badAt_1 : decode b_Md_badAt 1 = .ok (.iconst 0, 1) := by decide +kernel
theorem d_Md_badAt_2 : decode b_Md_badAt 2 = .ok (.putfield 46, 3) := by decide +kernel
theorem d_Md_badAt_5 : decode b_Md_badAt 5 = .ok (.aload_n 0, 1) := by decide +kernel
theorem d_Md_badAt_6 : decode b_Md_badAt 6 = .ok (.getfield 32, 3) := by decide +kernel
theorem d_Md_badAt_9 : decode b_Md_badAt 9 = .ok (.ifCond .ne 5, 3) := by decide +kernel
theorem d_Md_badAt_12 : decode b_Md_badAt 12 = .ok (.iconst (-1), 1) := by decide +kernel
theorem d_Md_badAt_13 : decode b_Md_badAt 13 = .ok (.ireturn, 1) := by decide +kernel
theorem d_Md_badAt_14 : decode b_Md_badAt 14 = .ok (.aload_n 0, 1) := by decide +kernel
theorem d_Md_badAt_15 : decode b_Md_badAt 15 = .ok (.aload_n 0, 1) := by decide +kernel
theorem d_Md_badAt_16 : decode b_Md_badAt 16 = .ok (.getfield 29, 3) := by decide +kernel
theorem d_Md_badAt_19 : decode b_Md_badAt 19 = .ok (.invokevirtual 88, 3) := by decide +kernel
theorem d_Md_badAt_22 : decode b_Md_badAt 22 = .ok (.ifCond .ne 8, 3) := by decide +kernel
theorem d_Md_badAt_25 : decode b_Md_badAt 25 = .ok (.aload_n 0, 1) := by decide +kernel
theorem d_Md_badAt_26 : decode b_Md_badAt 26 = .ok (.getfield 29, 3) := by decide +kernel
theorem d_Md_badAt_29 : decode b_Md_badAt 29 = .ok (.ireturn, 1) := by decide +kernel
theorem d_Md_badAt_30 : decode b_Md_badAt 30 = .ok (.iconst 3, 1) := by decide +kernel
theorem d_Md_badAt_31 : decode b_Md_badAt 31 = .ok (.istore_n 1, 1) := by decide +kernel
theorem d_Md_badAt_32 : decode b_Md_badAt 32 = .ok (.iload_n 1, 1) := by decide +kernel
theorem d_Md_badAt_33 : decode b_Md_badAt 33 = .ok (.aload_n 0, 1) := by decide +kernel
theorem d_Md_badAt_34 : decode b_Md_badAt 34 = .ok (.getfield 25, 3) := by decide +kernel
theorem d_Md_badAt_37 : decode b_Md_badAt 37 = .ok (.if_icmp .ge 27, 3) := by decide +kernel
theorem d_Md_badAt_40 : decode b_Md_badAt 40 = .ok (.aload_n 0, 1) := by decide +kernel
theorem d_Md_badAt_41 : decode b_Md_badAt 41 = .ok (.iload_n 1, 1) := by decide +kernel
theorem d_Md_badAt_42 : decode b_Md_badAt 42 = .ok (.invokevirtual 64, 3) := by decide +kernel
theorem d_Md_badAt_45 : decode b_Md_badAt 45 = .ok (.ifCond .eq 13, 3) := by decide +kernel
theorem d_Md_badAt_48 : decode b_Md_badAt 48 = .ok (.aload_n 0, 1) := by decide +kernel
theorem d_Md_badAt_49 : decode b_Md_badAt 49 = .ok (.iload_n 1, 1) := by decide +kernel
theorem d_Md_badAt_50 : decode b_Md_badAt 50 = .ok (.invokevirtual 88, 3) := by decide +kernel
theorem d_Md_badAt_53 : decode b_Md_badAt 53 = .ok (.ifCond .ne 5, 3) := by decide +kernel
theorem d_Md_badAt_56 : decode b_Md_badAt 56 = .ok (.iload_n 1, 1) := by decide +kernel
theorem d_Md_badAt_57 : decode b_Md_badAt 57 = .ok (.ireturn, 1) := by decide +kernel
theorem d_Md_badAt_58 : decode b_Md_badAt 58 = .ok (.iinc 1 1, 3) := by decide +kernel
theorem d_Md_badAt_61 : decode b_Md_badAt 61 = .ok (.goto (-29), 3) := by decide +kernel
theorem d_Md_badAt_64 : decode b_Md_badAt 64 = .ok (.iconst (-1), 1) := by decide +kernel
theorem d_Md_badAt_65 : decode b_Md_badAt 65 = .ok (.ireturn, 1) := by decide +kernel
theorem d_Md_byteAt_0 : decode b_Md_byteAt 0 = .ok (.aload_n 0, 1) := by decide +kernel
theorem d_Md_byteAt_1 : decode b_Md_byteAt 1 = .ok (.aload_n 0, 1) := by decide +kernel
theorem d_Md_byteAt_2 : decode b_Md_byteAt 2 = .ok (.iload_n 1, 1) := by decide +kernel
theorem d_Md_byteAt_3 : decode b_Md_byteAt 3 = .ok (.iload_n 2, 1) := by decide +kernel
theorem d_Md_byteAt_4 : decode b_Md_byteAt 4 = .ok (.invokevirtual 97, 3) := by decide +kernel
theorem d_Md_byteAt_7 : decode b_Md_byteAt 7 = .ok (.ifCond .eq 7, 3) := by decide +kernel
theorem d_Md_byteAt_10 : decode b_Md_byteAt 10 = .ok (.iconst 0, 1) := by decide +kernel
theorem d_Md_byteAt_11 : decode b_Md_byteAt 11 = .ok (.goto 4, 3) := by decide +kernel
theorem d_Md_byteAt_14 : decode b_Md_byteAt 14 = .ok (.iconst 1, 1) := by decide +kernel
theorem d_Md_byteAt_15 : decode b_Md_byteAt 15 = .ok (.putfield 46, 3) := by decide +kernel
theorem d_Md_byteAt_18 : decode b_Md_byteAt 18 = .ok (.aload_n 0, 1) := by decide +kernel
theorem d_Md_byteAt_19 : decode b_Md_byteAt 19 = .ok (.getfield 46, 3) := by decide +kernel
theorem d_Md_byteAt_22 : decode b_Md_byteAt 22 = .ok (.ifCond .eq 7, 3) := by decide +kernel
theorem d_Md_byteAt_25 : decode b_Md_byteAt 25 = .ok (.iconst 0, 1) := by decide +kernel
theorem d_Md_byteAt_26 : decode b_Md_byteAt 26 = .ok (.goto 14, 3) := by decide +kernel
theorem d_Md_byteAt_29 : decode b_Md_byteAt 29 = .ok (.aload_n 0, 1) := by decide +kernel
theorem d_Md_byteAt_30 : decode b_Md_byteAt 30 = .ok (.getfield 7, 3) := by decide +kernel
theorem d_Md_byteAt_33 : decode b_Md_byteAt 33 = .ok (.bipush 64, 2) := by decide +kernel
theorem d_Md_byteAt_35 : decode b_Md_byteAt 35 = .ok (.iload_n 1, 1) := by decide +kernel
theorem d_Md_byteAt_36 : decode b_Md_byteAt 36 = .ok (.imul, 1) := by decide +kernel
theorem d_Md_byteAt_37 : decode b_Md_byteAt 37 = .ok (.iload_n 2, 1) := by decide +kernel
theorem d_Md_byteAt_38 : decode b_Md_byteAt 38 = .ok (.iadd, 1) := by decide +kernel
theorem d_Md_byteAt_39 : decode b_Md_byteAt 39 = .ok (.iaload, 1) := by decide +kernel
theorem d_Md_byteAt_40 : decode b_Md_byteAt 40 = .ok (.ireturn, 1) := by decide +kernel
theorem d_Md_free_0 : decode b_Md_free 0 = .ok (.aload_n 0, 1) := by decide +kernel
theorem d_Md_free_1 : decode b_Md_free 1 = .ok (.iconst 0, 1) := by decide +kernel
theorem d_Md_free_2 : decode b_Md_free 2 = .ok (.putfield 46, 3) := by decide +kernel
theorem d_Md_free_5 : decode b_Md_free 5 = .ok (.aload_n 0, 1) := by decide +kernel
theorem d_Md_free_6 : decode b_Md_free 6 = .ok (.getfield 32, 3) := by decide +kernel
theorem d_Md_free_9 : decode b_Md_free 9 = .ok (.ifCond .eq 17, 3) := by decide +kernel
theorem d_Md_free_12 : decode b_Md_free 12 = .ok (.aload_n 0, 1) := by decide +kernel
theorem d_Md_free_13 : decode b_Md_free 13 = .ok (.getfield 25, 3) := by decide +kernel
theorem d_Md_free_16 : decode b_Md_free 16 = .ok (.iconst 3, 1) := by decide +kernel
theorem d_Md_free_17 : decode b_Md_free 17 = .ok (.isub, 1) := by decide +kernel
theorem d_Md_free_18 : decode b_Md_free 18 = .ok (.aload_n 0, 1) := by decide +kernel
theorem d_Md_free_19 : decode b_Md_free 19 = .ok (.getfield 54, 3) := by decide +kernel
theorem d_Md_free_22 : decode b_Md_free 22 = .ok (.isub, 1) := by decide +kernel
theorem d_Md_free_23 : decode b_Md_free 23 = .ok (.goto 4, 3) := by decide +kernel
theorem d_Md_free_26 : decode b_Md_free 26 = .ok (.iconst (-1), 1) := by decide +kernel
theorem d_Md_free_27 : decode b_Md_free 27 = .ok (.ireturn, 1) := by decide +kernel
theorem d_Md_root_0 : decode b_Md_root 0 = .ok (.aload_n 0, 1) := by decide +kernel
theorem d_Md_root_1 : decode b_Md_root 1 = .ok (.iconst 0, 1) := by decide +kernel
theorem d_Md_root_2 : decode b_Md_root 2 = .ok (.putfield 46, 3) := by decide +kernel
theorem d_Md_root_5 : decode b_Md_root 5 = .ok (.aload_n 0, 1) := by decide +kernel
theorem d_Md_root_6 : decode b_Md_root 6 = .ok (.getfield 32, 3) := by decide +kernel
theorem d_Md_root_9 : decode b_Md_root 9 = .ok (.ifCond .eq 10, 3) := by decide +kernel
theorem d_Md_root_12 : decode b_Md_root 12 = .ok (.aload_n 0, 1) := by decide +kernel
theorem d_Md_root_13 : decode b_Md_root 13 = .ok (.getfield 29, 3) := by decide +kernel
theorem d_Md_root_16 : decode b_Md_root 16 = .ok (.goto 4, 3) := by decide +kernel
theorem d_Md_root_19 : decode b_Md_root 19 = .ok (.iconst (-1), 1) := by decide +kernel
theorem d_Md_root_20 : decode b_Md_root 20 = .ok (.ireturn, 1) := by decide +kernel
end
section
-- decode rows (by gen/names.py)
theorem d_Lw_cell_0 : decode b_Lw_cell 0 = .ok (.iload_n 1, 1) := by decide +kernel
theorem d_Lw_cell_1 : decode b_Lw_cell 1 = .ok (.aload_n 0, 1) := by decide +kernel
theorem d_Lw_cell_2 : decode b_Lw_cell 2 = .ok (.arraylength, 1) := by decide +kernel
theorem d_Lw_cell_3 : decode b_Lw_cell 3 = .ok (.if_icmp .ge 9, 3) := by decide +kernel
theorem d_Lw_cell_6 : decode b_Lw_cell 6 = .ok (.aload_n 0, 1) := by decide +kernel
theorem d_Lw_cell_7 : decode b_Lw_cell 7 = .ok (.iload_n 1, 1) := by decide +kernel
theorem d_Lw_cell_8 : decode b_Lw_cell 8 = .ok (.iaload, 1) := by decide +kernel
theorem d_Lw_cell_9 : decode b_Lw_cell 9 = .ok (.goto 4, 3) := by decide +kernel
theorem d_Lw_cell_12 : decode b_Lw_cell 12 = .ok (.iconst 0, 1) := by decide +kernel
theorem d_Lw_cell_13 : decode b_Lw_cell 13 = .ok (.ireturn, 1) := by decide +kernel
theorem d_Lw_byteAt_0 : decode b_Lw_byteAt 0 = .ok (.aload_n 3, 1) := by decide +kernel
theorem d_Lw_byteAt_1 : decode b_Lw_byteAt 1 = .ok (.iconst 0, 1) := by decide +kernel
theorem d_Lw_byteAt_2 : decode b_Lw_byteAt 2 = .ok (.aload_n 0, 1) := by decide +kernel
theorem d_Lw_byteAt_3 : decode b_Lw_byteAt 3 = .ok (.iload_n 1, 1) := by decide +kernel
theorem d_Lw_byteAt_4 : decode b_Lw_byteAt 4 = .ok (.iload_n 2, 1) := by decide +kernel
theorem d_Lw_byteAt_5 : decode b_Lw_byteAt 5 = .ok (.invokevirtual 7, 3) := by decide +kernel
theorem d_Lw_byteAt_8 : decode b_Lw_byteAt 8 = .ok (.i2l, 1) := by decide +kernel
theorem d_Lw_byteAt_9 : decode b_Lw_byteAt 9 = .ok (.lastore, 1) := by decide +kernel
theorem d_Lw_byteAt_10 : decode b_Lw_byteAt 10 = .ok (.goto 7, 3) := by decide +kernel
theorem d_Lw_byteAt_13 : decode b_Lw_byteAt 13 = .ok (.astore 4, 2) := by decide +kernel
theorem d_Lw_byteAt_15 : decode b_Lw_byteAt 15 = .ok (.iconst 1, 1) := by decide +kernel
theorem d_Lw_byteAt_16 : decode b_Lw_byteAt 16 = .ok (.ireturn, 1) := by decide +kernel
theorem d_Lw_byteAt_17 : decode b_Lw_byteAt 17 = .ok (.iconst 0, 1) := by decide +kernel
theorem d_Lw_byteAt_18 : decode b_Lw_byteAt 18 = .ok (.ireturn, 1) := by decide +kernel
theorem d_Lw_law_0 : decode code 0 = .ok (.new 8, 3) := by decide +kernel
theorem d_Lw_law_3 : decode code 3 = .ok (.dup, 1) := by decide +kernel
theorem d_Lw_law_4 : decode code 4 = .ok (.aload_n 0, 1) := by decide +kernel
theorem d_Lw_law_5 : decode code 5 = .ok (.iconst 0, 1) := by decide +kernel
theorem d_Lw_law_6 : decode code 6 = .ok (.invokestatic 15, 3) := by decide +kernel
theorem d_Lw_law_9 : decode code 9 = .ok (.invokespecial 21, 3) := by decide +kernel
theorem d_Lw_law_12 : decode code 12 = .ok (.astore_n 1, 1) := by decide +kernel
theorem d_Lw_law_13 : decode code 13 = .ok (.new 24, 3) := by decide +kernel
theorem d_Lw_law_16 : decode code 16 = .ok (.dup, 1) := by decide +kernel
theorem d_Lw_law_17 : decode code 17 = .ok (.aload_n 0, 1) := by decide +kernel
theorem d_Lw_law_18 : decode code 18 = .ok (.iconst 0, 1) := by decide +kernel
theorem d_Lw_law_19 : decode code 19 = .ok (.invokestatic 15, 3) := by decide +kernel
theorem d_Lw_law_22 : decode code 22 = .ok (.invokespecial 26, 3) := by decide +kernel
theorem d_Lw_law_25 : decode code 25 = .ok (.astore_n 2, 1) := by decide +kernel
theorem d_Lw_law_26 : decode code 26 = .ok (.iconst 1, 1) := by decide +kernel
theorem d_Lw_law_27 : decode code 27 = .ok (.newarray .long, 2) := by decide +kernel
theorem d_Lw_law_29 : decode code 29 = .ok (.astore_n 3, 1) := by decide +kernel
theorem d_Lw_law_30 : decode code 30 = .ok (.iconst 1, 1) := by decide +kernel
theorem d_Lw_law_31 : decode code 31 = .ok (.istore 4, 2) := by decide +kernel
theorem d_Lw_law_33 : decode code 33 = .ok (.iload 4, 2) := by decide +kernel
theorem d_Lw_law_35 : decode code 35 = .ok (.aload_n 0, 1) := by decide +kernel
theorem d_Lw_law_36 : decode code 36 = .ok (.arraylength, 1) := by decide +kernel
theorem d_Lw_law_37 : decode code 37 = .ok (.iconst 4, 1) := by decide +kernel
theorem d_Lw_law_38 : decode code 38 = .ok (.isub, 1) := by decide +kernel
theorem d_Lw_law_39 : decode code 39 = .ok (.if_icmp .gt 422, 3) := by decide +kernel
theorem d_Lw_law_42 : decode code 42 = .ok (.aload_n 0, 1) := by decide +kernel
theorem d_Lw_law_43 : decode code 43 = .ok (.iload 4, 2) := by decide +kernel
theorem d_Lw_law_45 : decode code 45 = .ok (.iaload, 1) := by decide +kernel
theorem d_Lw_law_46 : decode code 46 = .ok (.bipush 15, 2) := by decide +kernel
theorem d_Lw_law_48 : decode code 48 = .ok (.iand, 1) := by decide +kernel
theorem d_Lw_law_49 : decode code 49 = .ok (.tableswitch 406 0 11 #[63, 88, 113, 150, 187, 212, 237, 250, 299, 312, 380, 393], 63) := by decide +kernel
theorem d_Lw_law_112 : decode code 112 = .ok (.aload_n 1, 1) := by decide +kernel
theorem d_Lw_law_113 : decode code 113 = .ok (.aload_n 0, 1) := by decide +kernel
theorem d_Lw_law_114 : decode code 114 = .ok (.iload 4, 2) := by decide +kernel
theorem d_Lw_law_116 : decode code 116 = .ok (.iconst 1, 1) := by decide +kernel
theorem d_Lw_law_117 : decode code 117 = .ok (.iadd, 1) := by decide +kernel
theorem d_Lw_law_118 : decode code 118 = .ok (.iaload, 1) := by decide +kernel
theorem d_Lw_law_119 : decode code 119 = .ok (.invokevirtual 27, 3) := by decide +kernel
theorem d_Lw_law_122 : decode code 122 = .ok (.aload_n 2, 1) := by decide +kernel
theorem d_Lw_law_123 : decode code 123 = .ok (.aload_n 0, 1) := by decide +kernel
theorem d_Lw_law_124 : decode code 124 = .ok (.iload 4, 2) := by decide +kernel
theorem d_Lw_law_126 : decode code 126 = .ok (.iconst 1, 1) := by decide +kernel
theorem d_Lw_law_127 : decode code 127 = .ok (.iadd, 1) := by decide +kernel
theorem d_Lw_law_128 : decode code 128 = .ok (.iaload, 1) := by decide +kernel
theorem d_Lw_law_129 : decode code 129 = .ok (.invokevirtual 31, 3) := by decide +kernel
theorem d_Lw_law_132 : decode code 132 = .ok (.if_icmp .eq 323, 3) := by decide +kernel
theorem d_Lw_law_135 : decode code 135 = .ok (.iconst 0, 1) := by decide +kernel
theorem d_Lw_law_136 : decode code 136 = .ok (.ireturn, 1) := by decide +kernel
theorem d_Lw_law_137 : decode code 137 = .ok (.aload_n 1, 1) := by decide +kernel
theorem d_Lw_law_138 : decode code 138 = .ok (.aload_n 0, 1) := by decide +kernel
theorem d_Lw_law_139 : decode code 139 = .ok (.iload 4, 2) := by decide +kernel
theorem d_Lw_law_141 : decode code 141 = .ok (.iconst 1, 1) := by decide +kernel
theorem d_Lw_law_142 : decode code 142 = .ok (.iadd, 1) := by decide +kernel
theorem d_Lw_law_143 : decode code 143 = .ok (.iaload, 1) := by decide +kernel
theorem d_Lw_law_144 : decode code 144 = .ok (.invokevirtual 32, 3) := by decide +kernel
theorem d_Lw_law_147 : decode code 147 = .ok (.aload_n 2, 1) := by decide +kernel
theorem d_Lw_law_148 : decode code 148 = .ok (.aload_n 0, 1) := by decide +kernel
theorem d_Lw_law_149 : decode code 149 = .ok (.iload 4, 2) := by decide +kernel
theorem d_Lw_law_151 : decode code 151 = .ok (.iconst 1, 1) := by decide +kernel
theorem d_Lw_law_152 : decode code 152 = .ok (.iadd, 1) := by decide +kernel
theorem d_Lw_law_153 : decode code 153 = .ok (.iaload, 1) := by decide +kernel
theorem d_Lw_law_154 : decode code 154 = .ok (.invokevirtual 36, 3) := by decide +kernel
theorem d_Lw_law_157 : decode code 157 = .ok (.if_icmp .eq 298, 3) := by decide +kernel
theorem d_Lw_law_160 : decode code 160 = .ok (.iconst 0, 1) := by decide +kernel
theorem d_Lw_law_161 : decode code 161 = .ok (.ireturn, 1) := by decide +kernel
theorem d_Lw_law_162 : decode code 162 = .ok (.aload_n 1, 1) := by decide +kernel
theorem d_Lw_law_163 : decode code 163 = .ok (.aload_n 0, 1) := by decide +kernel
theorem d_Lw_law_164 : decode code 164 = .ok (.iload 4, 2) := by decide +kernel
theorem d_Lw_law_166 : decode code 166 = .ok (.iconst 1, 1) := by decide +kernel
theorem d_Lw_law_167 : decode code 167 = .ok (.iadd, 1) := by decide +kernel
theorem d_Lw_law_168 : decode code 168 = .ok (.iaload, 1) := by decide +kernel
theorem d_Lw_law_169 : decode code 169 = .ok (.aload_n 0, 1) := by decide +kernel
theorem d_Lw_law_170 : decode code 170 = .ok (.iload 4, 2) := by decide +kernel
theorem d_Lw_law_172 : decode code 172 = .ok (.iconst 2, 1) := by decide +kernel
theorem d_Lw_law_173 : decode code 173 = .ok (.iadd, 1) := by decide +kernel
theorem d_Lw_law_174 : decode code 174 = .ok (.iaload, 1) := by decide +kernel
theorem d_Lw_law_175 : decode code 175 = .ok (.invokevirtual 37, 3) := by decide +kernel
theorem d_Lw_law_178 : decode code 178 = .ok (.aload_n 2, 1) := by decide +kernel
theorem d_Lw_law_179 : decode code 179 = .ok (.aload_n 0, 1) := by decide +kernel
theorem d_Lw_law_180 : decode code 180 = .ok (.iload 4, 2) := by decide +kernel
theorem d_Lw_law_182 : decode code 182 = .ok (.iconst 1, 1) := by decide +kernel
theorem d_Lw_law_183 : decode code 183 = .ok (.iadd, 1) := by decide +kernel
theorem d_Lw_law_184 : decode code 184 = .ok (.iaload, 1) := by decide +kernel
theorem d_Lw_law_185 : decode code 185 = .ok (.aload_n 0, 1) := by decide +kernel
theorem d_Lw_law_186 : decode code 186 = .ok (.iload 4, 2) := by decide +kernel
theorem d_Lw_law_188 : decode code 188 = .ok (.iconst 2, 1) := by decide +kernel
theorem d_Lw_law_189 : decode code 189 = .ok (.iadd, 1) := by decide +kernel
theorem d_Lw_law_190 : decode code 190 = .ok (.iaload, 1) := by decide +kernel
theorem d_Lw_law_191 : decode code 191 = .ok (.invokevirtual 40, 3) := by decide +kernel
theorem d_Lw_law_194 : decode code 194 = .ok (.if_icmp .eq 261, 3) := by decide +kernel
theorem d_Lw_law_197 : decode code 197 = .ok (.iconst 0, 1) := by decide +kernel
theorem d_Lw_law_198 : decode code 198 = .ok (.ireturn, 1) := by decide +kernel
theorem d_Lw_law_199 : decode code 199 = .ok (.aload_n 1, 1) := by decide +kernel
theorem d_Lw_law_200 : decode code 200 = .ok (.aload_n 0, 1) := by decide +kernel
theorem d_Lw_law_201 : decode code 201 = .ok (.iload 4, 2) := by decide +kernel
theorem d_Lw_law_203 : decode code 203 = .ok (.iconst 1, 1) := by decide +kernel
theorem d_Lw_law_204 : decode code 204 = .ok (.iadd, 1) := by decide +kernel
theorem d_Lw_law_205 : decode code 205 = .ok (.iaload, 1) := by decide +kernel
theorem d_Lw_law_206 : decode code 206 = .ok (.aload_n 0, 1) := by decide +kernel
theorem d_Lw_law_207 : decode code 207 = .ok (.iload 4, 2) := by decide +kernel
theorem d_Lw_law_209 : decode code 209 = .ok (.iconst 2, 1) := by decide +kernel
theorem d_Lw_law_210 : decode code 210 = .ok (.iadd, 1) := by decide +kernel
theorem d_Lw_law_211 : decode code 211 = .ok (.iaload, 1) := by decide +kernel
theorem d_Lw_law_212 : decode code 212 = .ok (.invokevirtual 41, 3) := by decide +kernel
theorem d_Lw_law_215 : decode code 215 = .ok (.aload_n 2, 1) := by decide +kernel
theorem d_Lw_law_216 : decode code 216 = .ok (.aload_n 0, 1) := by decide +kernel
theorem d_Lw_law_217 : decode code 217 = .ok (.iload 4, 2) := by decide +kernel
theorem d_Lw_law_219 : decode code 219 = .ok (.iconst 1, 1) := by decide +kernel
theorem d_Lw_law_220 : decode code 220 = .ok (.iadd, 1) := by decide +kernel
theorem d_Lw_law_221 : decode code 221 = .ok (.iaload, 1) := by decide +kernel
theorem d_Lw_law_222 : decode code 222 = .ok (.aload_n 0, 1) := by decide +kernel
theorem d_Lw_law_223 : decode code 223 = .ok (.iload 4, 2) := by decide +kernel
theorem d_Lw_law_225 : decode code 225 = .ok (.iconst 2, 1) := by decide +kernel
theorem d_Lw_law_226 : decode code 226 = .ok (.iadd, 1) := by decide +kernel
theorem d_Lw_law_227 : decode code 227 = .ok (.iaload, 1) := by decide +kernel
theorem d_Lw_law_228 : decode code 228 = .ok (.invokevirtual 44, 3) := by decide +kernel
theorem d_Lw_law_231 : decode code 231 = .ok (.if_icmp .eq 224, 3) := by decide +kernel
theorem d_Lw_law_234 : decode code 234 = .ok (.iconst 0, 1) := by decide +kernel
theorem d_Lw_law_235 : decode code 235 = .ok (.ireturn, 1) := by decide +kernel
theorem d_Lw_law_236 : decode code 236 = .ok (.aload_n 1, 1) := by decide +kernel
theorem d_Lw_law_237 : decode code 237 = .ok (.aload_n 0, 1) := by decide +kernel
theorem d_Lw_law_238 : decode code 238 = .ok (.iload 4, 2) := by decide +kernel
theorem d_Lw_law_240 : decode code 240 = .ok (.iconst 1, 1) := by decide +kernel
theorem d_Lw_law_241 : decode code 241 = .ok (.iadd, 1) := by decide +kernel
theorem d_Lw_law_242 : decode code 242 = .ok (.iaload, 1) := by decide +kernel
theorem d_Lw_law_243 : decode code 243 = .ok (.invokevirtual 45, 3) := by decide +kernel
theorem d_Lw_law_246 : decode code 246 = .ok (.aload_n 2, 1) := by decide +kernel
theorem d_Lw_law_247 : decode code 247 = .ok (.aload_n 0, 1) := by decide +kernel
theorem d_Lw_law_248 : decode code 248 = .ok (.iload 4, 2) := by decide +kernel
theorem d_Lw_law_250 : decode code 250 = .ok (.iconst 1, 1) := by decide +kernel
theorem d_Lw_law_251 : decode code 251 = .ok (.iadd, 1) := by decide +kernel
theorem d_Lw_law_252 : decode code 252 = .ok (.iaload, 1) := by decide +kernel
theorem d_Lw_law_253 : decode code 253 = .ok (.invokevirtual 48, 3) := by decide +kernel
theorem d_Lw_law_256 : decode code 256 = .ok (.if_icmp .eq 199, 3) := by decide +kernel
theorem d_Lw_law_259 : decode code 259 = .ok (.iconst 0, 1) := by decide +kernel
theorem d_Lw_law_260 : decode code 260 = .ok (.ireturn, 1) := by decide +kernel
theorem d_Lw_law_261 : decode code 261 = .ok (.aload_n 1, 1) := by decide +kernel
theorem d_Lw_law_262 : decode code 262 = .ok (.aload_n 0, 1) := by decide +kernel
theorem d_Lw_law_263 : decode code 263 = .ok (.iload 4, 2) := by decide +kernel
theorem d_Lw_law_265 : decode code 265 = .ok (.iconst 1, 1) := by decide +kernel
theorem d_Lw_law_266 : decode code 266 = .ok (.iadd, 1) := by decide +kernel
theorem d_Lw_law_267 : decode code 267 = .ok (.iaload, 1) := by decide +kernel
theorem d_Lw_law_268 : decode code 268 = .ok (.invokevirtual 49, 3) := by decide +kernel
theorem d_Lw_law_271 : decode code 271 = .ok (.aload_n 2, 1) := by decide +kernel
theorem d_Lw_law_272 : decode code 272 = .ok (.aload_n 0, 1) := by decide +kernel
theorem d_Lw_law_273 : decode code 273 = .ok (.iload 4, 2) := by decide +kernel
theorem d_Lw_law_275 : decode code 275 = .ok (.iconst 1, 1) := by decide +kernel
theorem d_Lw_law_276 : decode code 276 = .ok (.iadd, 1) := by decide +kernel
theorem d_Lw_law_277 : decode code 277 = .ok (.iaload, 1) := by decide +kernel
theorem d_Lw_law_278 : decode code 278 = .ok (.invokevirtual 52, 3) := by decide +kernel
theorem d_Lw_law_281 : decode code 281 = .ok (.if_icmp .eq 174, 3) := by decide +kernel
theorem d_Lw_law_284 : decode code 284 = .ok (.iconst 0, 1) := by decide +kernel
theorem d_Lw_law_285 : decode code 285 = .ok (.ireturn, 1) := by decide +kernel
theorem d_Lw_law_286 : decode code 286 = .ok (.aload_n 1, 1) := by decide +kernel
theorem d_Lw_law_287 : decode code 287 = .ok (.invokevirtual 53, 3) := by decide +kernel
theorem d_Lw_law_290 : decode code 290 = .ok (.aload_n 2, 1) := by decide +kernel
theorem d_Lw_law_291 : decode code 291 = .ok (.invokevirtual 57, 3) := by decide +kernel
theorem d_Lw_law_294 : decode code 294 = .ok (.if_icmp .eq 161, 3) := by decide +kernel
theorem d_Lw_law_297 : decode code 297 = .ok (.iconst 0, 1) := by decide +kernel
theorem d_Lw_law_298 : decode code 298 = .ok (.ireturn, 1) := by decide +kernel
theorem d_Lw_law_299 : decode code 299 = .ok (.aload_n 1, 1) := by decide +kernel
theorem d_Lw_law_300 : decode code 300 = .ok (.aload_n 0, 1) := by decide +kernel
theorem d_Lw_law_301 : decode code 301 = .ok (.iload 4, 2) := by decide +kernel
theorem d_Lw_law_303 : decode code 303 = .ok (.iconst 1, 1) := by decide +kernel
theorem d_Lw_law_304 : decode code 304 = .ok (.iadd, 1) := by decide +kernel
theorem d_Lw_law_305 : decode code 305 = .ok (.iaload, 1) := by decide +kernel
theorem d_Lw_law_306 : decode code 306 = .ok (.aload_n 0, 1) := by decide +kernel
theorem d_Lw_law_307 : decode code 307 = .ok (.iload 4, 2) := by decide +kernel
theorem d_Lw_law_309 : decode code 309 = .ok (.iconst 2, 1) := by decide +kernel
theorem d_Lw_law_310 : decode code 310 = .ok (.iadd, 1) := by decide +kernel
theorem d_Lw_law_311 : decode code 311 = .ok (.iaload, 1) := by decide +kernel
theorem d_Lw_law_312 : decode code 312 = .ok (.aload_n 0, 1) := by decide +kernel
theorem d_Lw_law_313 : decode code 313 = .ok (.iload 4, 2) := by decide +kernel
theorem d_Lw_law_315 : decode code 315 = .ok (.iconst 3, 1) := by decide +kernel
theorem d_Lw_law_316 : decode code 316 = .ok (.iadd, 1) := by decide +kernel
theorem d_Lw_law_317 : decode code 317 = .ok (.iaload, 1) := by decide +kernel
theorem d_Lw_law_318 : decode code 318 = .ok (.invokevirtual 58, 3) := by decide +kernel
theorem d_Lw_law_321 : decode code 321 = .ok (.aload_n 2, 1) := by decide +kernel
theorem d_Lw_law_322 : decode code 322 = .ok (.aload_n 0, 1) := by decide +kernel
theorem d_Lw_law_323 : decode code 323 = .ok (.iload 4, 2) := by decide +kernel
theorem d_Lw_law_325 : decode code 325 = .ok (.iconst 1, 1) := by decide +kernel
theorem d_Lw_law_326 : decode code 326 = .ok (.iadd, 1) := by decide +kernel
theorem d_Lw_law_327 : decode code 327 = .ok (.iaload, 1) := by decide +kernel
theorem d_Lw_law_328 : decode code 328 = .ok (.aload_n 0, 1) := by decide +kernel
theorem d_Lw_law_329 : decode code 329 = .ok (.iload 4, 2) := by decide +kernel
theorem d_Lw_law_331 : decode code 331 = .ok (.iconst 2, 1) := by decide +kernel
theorem d_Lw_law_332 : decode code 332 = .ok (.iadd, 1) := by decide +kernel
theorem d_Lw_law_333 : decode code 333 = .ok (.iaload, 1) := by decide +kernel
theorem d_Lw_law_334 : decode code 334 = .ok (.aload_n 0, 1) := by decide +kernel
theorem d_Lw_law_335 : decode code 335 = .ok (.iload 4, 2) := by decide +kernel
theorem d_Lw_law_337 : decode code 337 = .ok (.iconst 3, 1) := by decide +kernel
theorem d_Lw_law_338 : decode code 338 = .ok (.iadd, 1) := by decide +kernel
theorem d_Lw_law_339 : decode code 339 = .ok (.iaload, 1) := by decide +kernel
theorem d_Lw_law_340 : decode code 340 = .ok (.invokevirtual 62, 3) := by decide +kernel
theorem d_Lw_law_343 : decode code 343 = .ok (.if_icmp .eq 112, 3) := by decide +kernel
theorem d_Lw_law_346 : decode code 346 = .ok (.iconst 0, 1) := by decide +kernel
theorem d_Lw_law_347 : decode code 347 = .ok (.ireturn, 1) := by decide +kernel
theorem d_Lw_law_348 : decode code 348 = .ok (.aload_n 1, 1) := by decide +kernel
theorem d_Lw_law_349 : decode code 349 = .ok (.invokevirtual 63, 3) := by decide +kernel
theorem d_Lw_law_352 : decode code 352 = .ok (.aload_n 2, 1) := by decide +kernel
theorem d_Lw_law_353 : decode code 353 = .ok (.invokevirtual 66, 3) := by decide +kernel
theorem d_Lw_law_356 : decode code 356 = .ok (.if_icmp .eq 99, 3) := by decide +kernel
theorem d_Lw_law_359 : decode code 359 = .ok (.iconst 0, 1) := by decide +kernel
theorem d_Lw_law_360 : decode code 360 = .ok (.ireturn, 1) := by decide +kernel
theorem d_Lw_law_361 : decode code 361 = .ok (.aload_n 1, 1) := by decide +kernel
theorem d_Lw_law_362 : decode code 362 = .ok (.aload_n 0, 1) := by decide +kernel
theorem d_Lw_law_363 : decode code 363 = .ok (.iload 4, 2) := by decide +kernel
theorem d_Lw_law_365 : decode code 365 = .ok (.iconst 1, 1) := by decide +kernel
theorem d_Lw_law_366 : decode code 366 = .ok (.iadd, 1) := by decide +kernel
theorem d_Lw_law_367 : decode code 367 = .ok (.iaload, 1) := by decide +kernel
theorem d_Lw_law_368 : decode code 368 = .ok (.aload_n 0, 1) := by decide +kernel
theorem d_Lw_law_369 : decode code 369 = .ok (.iload 4, 2) := by decide +kernel
theorem d_Lw_law_371 : decode code 371 = .ok (.iconst 2, 1) := by decide +kernel
theorem d_Lw_law_372 : decode code 372 = .ok (.iadd, 1) := by decide +kernel
theorem d_Lw_law_373 : decode code 373 = .ok (.iaload, 1) := by decide +kernel
theorem d_Lw_law_374 : decode code 374 = .ok (.aload_n 3, 1) := by decide +kernel
theorem d_Lw_law_375 : decode code 375 = .ok (.invokestatic 67, 3) := by decide +kernel
theorem d_Lw_law_378 : decode code 378 = .ok (.istore 5, 2) := by decide +kernel
theorem d_Lw_law_380 : decode code 380 = .ok (.aload_n 2, 1) := by decide +kernel
theorem d_Lw_law_381 : decode code 381 = .ok (.aload_n 0, 1) := by decide +kernel
theorem d_Lw_law_382 : decode code 382 = .ok (.iload 4, 2) := by decide +kernel
theorem d_Lw_law_384 : decode code 384 = .ok (.iconst 1, 1) := by decide +kernel
theorem d_Lw_law_385 : decode code 385 = .ok (.iadd, 1) := by decide +kernel
theorem d_Lw_law_386 : decode code 386 = .ok (.iaload, 1) := by decide +kernel
theorem d_Lw_law_387 : decode code 387 = .ok (.aload_n 0, 1) := by decide +kernel
theorem d_Lw_law_388 : decode code 388 = .ok (.iload 4, 2) := by decide +kernel
theorem d_Lw_law_390 : decode code 390 = .ok (.iconst 2, 1) := by decide +kernel
theorem d_Lw_law_391 : decode code 391 = .ok (.iadd, 1) := by decide +kernel
theorem d_Lw_law_392 : decode code 392 = .ok (.iaload, 1) := by decide +kernel
theorem d_Lw_law_393 : decode code 393 = .ok (.invokevirtual 70, 3) := by decide +kernel
theorem d_Lw_law_396 : decode code 396 = .ok (.istore 6, 2) := by decide +kernel
theorem d_Lw_law_398 : decode code 398 = .ok (.aload_n 2, 1) := by decide +kernel
theorem d_Lw_law_399 : decode code 399 = .ok (.invokevirtual 71, 3) := by decide +kernel
theorem d_Lw_law_402 : decode code 402 = .ok (.iload 5, 2) := by decide +kernel
theorem d_Lw_law_404 : decode code 404 = .ok (.if_icmp .eq 5, 3) := by decide +kernel
theorem d_Lw_law_407 : decode code 407 = .ok (.iconst 0, 1) := by decide +kernel
theorem d_Lw_law_408 : decode code 408 = .ok (.ireturn, 1) := by decide +kernel
theorem d_Lw_law_409 : decode code 409 = .ok (.iload 5, 2) := by decide +kernel
theorem d_Lw_law_411 : decode code 411 = .ok (.ifCond .ne 15, 3) := by decide +kernel
theorem d_Lw_law_414 : decode code 414 = .ok (.aload_n 3, 1) := by decide +kernel
theorem d_Lw_law_415 : decode code 415 = .ok (.iconst 0, 1) := by decide +kernel
theorem d_Lw_law_416 : decode code 416 = .ok (.laload, 1) := by decide +kernel
theorem d_Lw_law_417 : decode code 417 = .ok (.iload 6, 2) := by decide +kernel
theorem d_Lw_law_419 : decode code 419 = .ok (.i2l, 1) := by decide +kernel
theorem d_Lw_law_420 : decode code 420 = .ok (.lcmp, 1) := by decide +kernel
theorem d_Lw_law_421 : decode code 421 = .ok (.ifCond .eq 5, 3) := by decide +kernel
theorem d_Lw_law_424 : decode code 424 = .ok (.iconst 0, 1) := by decide +kernel
theorem d_Lw_law_425 : decode code 425 = .ok (.ireturn, 1) := by decide +kernel
theorem d_Lw_law_426 : decode code 426 = .ok (.goto 29, 3) := by decide +kernel
theorem d_Lw_law_429 : decode code 429 = .ok (.aload_n 1, 1) := by decide +kernel
theorem d_Lw_law_430 : decode code 430 = .ok (.invokevirtual 74, 3) := by decide +kernel
theorem d_Lw_law_433 : decode code 433 = .ok (.aload_n 2, 1) := by decide +kernel
theorem d_Lw_law_434 : decode code 434 = .ok (.invokevirtual 77, 3) := by decide +kernel
theorem d_Lw_law_437 : decode code 437 = .ok (.if_icmp .eq 18, 3) := by decide +kernel
theorem d_Lw_law_440 : decode code 440 = .ok (.iconst 0, 1) := by decide +kernel
theorem d_Lw_law_441 : decode code 441 = .ok (.ireturn, 1) := by decide +kernel
theorem d_Lw_law_442 : decode code 442 = .ok (.aload_n 1, 1) := by decide +kernel
theorem d_Lw_law_443 : decode code 443 = .ok (.invokevirtual 78, 3) := by decide +kernel
theorem d_Lw_law_446 : decode code 446 = .ok (.aload_n 2, 1) := by decide +kernel
theorem d_Lw_law_447 : decode code 447 = .ok (.invokevirtual 81, 3) := by decide +kernel
theorem d_Lw_law_450 : decode code 450 = .ok (.if_icmp .eq 5, 3) := by decide +kernel
theorem d_Lw_law_453 : decode code 453 = .ok (.iconst 0, 1) := by decide +kernel
theorem d_Lw_law_454 : decode code 454 = .ok (.ireturn, 1) := by decide +kernel
theorem d_Lw_law_455 : decode code 455 = .ok (.iinc 4 4, 3) := by decide +kernel
theorem d_Lw_law_458 : decode code 458 = .ok (.goto (-425), 3) := by decide +kernel
theorem d_Lw_law_461 : decode code 461 = .ok (.iconst 1, 1) := by decide +kernel
theorem d_Lw_law_462 : decode code 462 = .ok (.ireturn, 1) := by decide +kernel
end
section
-- ===== base: worlds, contracts, calls, rows on Nat =====
abbrev pb_ty (k : Nat → ClassId) : List (ClassId × FieldType) := [(k 0, .byte), (k 1, .int), (k 2, .array .byte), (k 3, .long)]
abbrev pb_nest : Cond := .fieldLinkNest "PuzzleBook" 107 "PuzzleBook$Pen" "size" "I" "PuzzleBook"
/-- the classes byte[][] and byte[] -/
def pb_AO (k : Nat → ClassId) (U : State) : Prop := ∃ (kA kB : Class) (comp : ClassId), U.vm.findClass "[[B" = some (k 2) ∧ U.vm.classes[k 2]? = some kA ∧ kA.kind = .array (k 0) (.array .byte) ∧ U.vm.classes[k 0]? = some kB ∧ kB.kind = .array comp .byte
theorem pb_AO.moved {k : Nat → ClassId} {u U : State} (hvm : u.vm.Alike U.vm) (h : pb_AO k u) : pb_AO k U := by
  obtain ⟨kA, kB, comp, h0, h1, h2, h3, h4⟩ := h
  obtain ⟨kA', hA', eA⟩ := hvm.2.2 _ _ h1
  obtain ⟨kB', hB', eB⟩ := hvm.2.2 _ _ h3
  exact ⟨kA', kB', comp, by rw [hvm.findClass]; exact h0, hA', by rw [eA]; exact h2, hB', by rw [eB]; exact h4⟩
def pb_kn (D : va_G) (k : Nat → ClassId) (U : State) : Prop := va_K D pb_cl (pb_ty k) U ∧ va_Nw pb_nest U ∧ pb_AO k U
theorem pb_kn.warm {D : va_G} {k : Nat → ClassId} {s U : State} (h : pb_kn D k s) (hW : s.WarmedH U.vm) : pb_kn D k U := ⟨va_K.moved hW.alike h.1, va_Nw.warmF hW h.2.1, h.2.2.moved hW.alike⟩
theorem pb_kn.same {D : va_G} {k : Nat → ClassId} {u U : State} (h : pb_kn D k u) (e : u.vm = U.vm) : pb_kn D k U := ⟨va_K.moved (by rw [e]; exact Vm.Alike.refl _) h.1, va_Nw.same rfl e h.2.1, h.2.2.moved (by rw [e]; exact Vm.Alike.refl _)⟩
/-- the world: the cells ws, apart and in A; outside A nothing has changed since H0 -/
def pb_W (D : va_G) (A : Nat → Prop) (H0 : Heap) (ws : va_W) (H : Heap) (locs : List Loc) : Prop := va_P D pb_cl ws H ∧ va_D A ws ∧ va_S A H0 H locs
def pb_P (D : va_G) (k : Nat → ClassId) (av : List Value) (ws : va_W) (sz : Nat) : Array Value → State → Prop := va_Pc av (fun U => U.heap.size = sz ∧ va_P D pb_cl ws U.heap ∧ pb_kn D k U ∧ va_D (fun _ => True) ws)
def pb_Pr (D : va_G) (k : Nat → ClassId) (av : List Value) (ws : va_W) : Array Value → State → Prop := va_Pc av (fun U => va_P D pb_cl ws U.heap ∧ pb_kn D k U)
def pb_QI {S : Type} (D : va_G) (ws : va_W) (sz : Nat) (post : Int32 → S → Prop) (wf : S → va_W) : Array Value → State → Outcome → State → Prop := va_Qi post (fun u t => va_P D pb_cl (wf u) t.heap ∧ va_D (va_A ws sz) (wf u)) (va_A ws sz)
def pb_QV {S : Type} (D : va_G) (ws : va_W) (sz : Nat) (post : S → Prop) (wf : S → va_W) : Array Value → State → Outcome → State → Prop := va_Qv post (fun u t => va_P D pb_cl (wf u) t.heap ∧ va_D (va_A ws sz) (wf u)) (va_A ws sz)
abbrev pb_rm (d mc ms : Nat) : Room := { frames := d, cells := mc, slots := ms, locals := 40 * d }
abbrev pb_ws (y : MethodName) (b : ByteArray) (n : Nat) (ret : Option FieldType) : List Cond := .code y b n ret :: pb_G
/-- what a method's walk knows -/
def pb_C (D : va_G) (k : Nat → ClassId) (own : String) (cc : ByteArray) (nL fr lo : Nat) (p : Program) (R : Room) (s : State) (m : MethodId) (args : Array Value) (c : Code) : Prop :=
  p.tables.exec = Jvm.exec ∧ c.code = cc ∧ c.maxLocals = nL ∧ s.vm.findClass own = some m.cls ∧ (∀ w ∈ pb_G, w.before args s = true) ∧ pb_kn D k s ∧ fr ≤ R.frames ∧ lo ≤ R.locals
theorem pb_P_bl {D : va_G} {k : Nat → ClassId} {av : List Value} {ws : va_W} {sz : Nat} : FrameBlind (pb_P D k av ws sz) := fun a U g mk q => by
  obtain ⟨q0, q1, qP, qK, qD⟩ := q
  exact ⟨q0, q1, qP, qK.same rfl, qD⟩
theorem pb_Pr_bl {D : va_G} {k : Nat → ClassId} {av : List Value} {ws : va_W} : FrameBlind (pb_Pr D k av ws) := fun a U g mk q => by
  obtain ⟨q0, qP, qK⟩ := q
  exact ⟨q0, qP, qK.same rfl⟩
section PBMK
variable {l : Launch} {y : MethodName} {cc : ByteArray} {nL d mc ms sz : Nat} {av : List Value} {ws : va_W} {S : Type} {D : va_G} {k : Nat → ClassId}
theorem pb_mkI (own : String) {ty : FieldType} {post : Int32 → S → Prop} {wf : S → va_W} (ho : y.cls = own) (hy : plainName y.cls = true) (hlen : (lg_sl av).length ≤ nL)
    (body : ∀ (p : Program) (e : Env) (R : Room) (s : State) (m : MethodId) (args : Array Value) (below : List Frame) (meth : Method) (c : Code) (Q : State → Prop) (A : Nat → Prop) (ls : Array Slot),
      pb_C D k own cc nL d (40 * d) p R s m args c → R.cells = mc ∧ R.slots = ms → (∀ q, s.heap.size ≤ q → A q) → pb_W D A s.heap ws s.heap [] → lv_has ls nL (lv_args 0 av) →
      (∀ (H : Heap) (locs : List Loc) (ls : Array Slot) (pc : Nat) (v : Int32) (u : S), decode cc pc = .ok (.ireturn, 1) → narrow ty (.int v) = .int v → pb_W D A s.heap (wf u) H locs → post v u → W p l e R s m args below meth c H locs mc ms Q (F0 m pc ls [.int v])) →
      W p l e R s m args below meth c s.heap [] 0 0 Q (F0 m 0 ls [])) :
    Met l y (pb_ws y cc nL (some ty)) (pb_rm d mc ms) (pb_P D k av ws sz) (pb_QI D ws sz post wf) mc ms (va_A ws sz) := by
  refine Met.ofW (cc := cc) (maxL := nL) (ret := some ty) hy rfl ?_
  intro p e s m args below meth c s₁ B hml hv
  obtain ⟨rfl, hsz, hP, hK, hD0⟩ := hv
  have hts := atoms_spec (ws := pb_ws y cc nL (some ty)) B.pre
  have hown : s.vm.findClass own = some m.cls := by rw [← ho]; exact findClass_of_methodNamed B.named
  subst hsz
  rw [lg_entry_eq]
  refine body p e _ s m _ below meth c _ (va_A ws s.heap.size) _ ⟨B.exec, B.bytes, hml, hown, fun w h => hts w (List.mem_cons_of_mem _ h), hK, Nat.le_refl _, Nat.le_refl _⟩ ⟨rfl, rfl⟩ (fun q h => Or.inr h) ⟨hP, hD0.self, va_S.rf⟩ (lv_entry av hlen) ?_
  intro H locs ls pc v u hdg hn hw hp
  exact W.zret B.exec B.bytes B.returns hn (fun t ht hW => ⟨⟨v, u, rfl, hp, by rw [ht]; exact hw.1, hw.2.1⟩, hw.2.2.F ht⟩) hw.2.2.2.2 hdg B.notSynchronized
theorem pb_mkV (own : String) {post : S → Prop} {wf : S → va_W} (ho : y.cls = own) (hy : plainName y.cls = true) (hlen : (lg_sl av).length ≤ nL)
    (body : ∀ (p : Program) (e : Env) (R : Room) (s : State) (m : MethodId) (args : Array Value) (below : List Frame) (meth : Method) (c : Code) (Q : State → Prop) (A : Nat → Prop) (ls : Array Slot),
      pb_C D k own cc nL d (40 * d) p R s m args c → R.cells = mc ∧ R.slots = ms → (∀ q, s.heap.size ≤ q → A q) → pb_W D A s.heap ws s.heap [] → lv_has ls nL (lv_args 0 av) → (y.name = "<init>" → meth.name = "<init>") →
      (∀ (H : Heap) (locs : List Loc) (ls : Array Slot) (pc : Nat) (u : S), decode cc pc = .ok (.return_, 1) → pb_W D A s.heap (wf u) H locs → post u → W p l e R s m args below meth c H locs mc ms Q (F0 m pc ls [])) →
      W p l e R s m args below meth c s.heap [] 0 0 Q (F0 m 0 ls [])) :
    Met l y (pb_ws y cc nL none) (pb_rm d mc ms) (pb_P D k av ws sz) (pb_QV D ws sz post wf) mc ms (va_A ws sz) := by
  refine Met.ofW (cc := cc) (maxL := nL) (ret := none) hy rfl ?_
  intro p e s m args below meth c s₁ B hml hv
  obtain ⟨rfl, hsz, hP, hK, hD0⟩ := hv
  have hts := atoms_spec (ws := pb_ws y cc nL none) B.pre
  have hown : s.vm.findClass own = some m.cls := by rw [← ho]; exact findClass_of_methodNamed B.named
  subst hsz
  rw [lg_entry_eq]
  refine body p e _ s m _ below meth c _ (va_A ws s.heap.size) _ ⟨B.exec, B.bytes, hml, hown, fun w h => hts w (List.mem_cons_of_mem _ h), hK, Nat.le_refl _, Nat.le_refl _⟩ ⟨rfl, rfl⟩ (fun q h => Or.inr h) ⟨hP, hD0.self, va_S.rf⟩ (lv_entry av hlen) (fun hi => (name_of_methodNamed B.named B.method).1.trans hi) ?_
  intro H locs ls pc u hdg hw hp
  exact W.vret B.exec B.bytes B.returns (fun t ht hW => ⟨⟨u, rfl, hp, by rw [ht]; exact hw.1, hw.2.1⟩, hw.2.2.F ht⟩) hw.2.2.2.2 hdg B.notSynchronized
theorem pb_mkR (own : String) {ty : FieldType} {post : Int32 → Prop} (ho : y.cls = own) (hy : plainName y.cls = true) (hlen : (lg_sl av).length ≤ nL)
    (body : ∀ (p : Program) (e : Env) (R : Room) (s : State) (m : MethodId) (args : Array Value) (below : List Frame) (meth : Method) (c : Code) (Q : State → Prop) (ls : Array Slot),
      pb_C D k own cc nL d (40 * d) p R s m args c → va_P D pb_cl ws s.heap → lv_has ls nL (lv_args 0 av) →
      (∀ (ls : Array Slot) (pc : Nat) (v : Int32), decode cc pc = .ok (.ireturn, 1) → narrow ty (.int v) = .int v → post v → W p l e R s m args below meth c s.heap [] 0 0 Q (F0 m pc ls [.int v])) →
      W p l e R s m args below meth c s.heap [] 0 0 Q (F0 m 0 ls [])) :
    Met l y (pb_ws y cc nL (some ty)) (pb_rm d 0 0) (pb_Pr D k av ws) (vp_Si post) 0 0 (fun _ => False) := by
  refine Met.ofW (cc := cc) (maxL := nL) (ret := some ty) hy rfl ?_
  intro p e s m args below meth c s₁ B hml hv
  obtain ⟨rfl, hP, hK⟩ := hv
  have hts := atoms_spec (ws := pb_ws y cc nL (some ty)) B.pre
  have hown : s.vm.findClass own = some m.cls := by rw [← ho]; exact findClass_of_methodNamed B.named
  rw [lg_entry_eq]
  refine body p e _ s m _ below meth c _ _ ⟨B.exec, B.bytes, hml, hown, fun w h => hts w (List.mem_cons_of_mem _ h), hK, Nat.le_refl _, Nat.le_refl _⟩ hP (lv_entry av hlen) ?_
  intro ls pc v hdg hn hp
  exact W.zret B.exec B.bytes B.returns hn (fun t ht hW => ⟨v, rfl, hp, ht⟩) (fun q h => by cases h) hdg B.notSynchronized
end PBMK
def pb_cV (Cc : String) (y : MethodName) (b : ByteArray) (nL n : Nat) (ret : Option FieldType) : Prop :=
  (Cond.instanceMethod y ∈ pb_G) ∧ (Cond.selects Cc y y ∈ pb_G) ∧ (Cond.initialized Cc ∈ pb_G) ∧ (Cond.code y b nL ret ∈ pb_G) ∧ y.cls = Cc ∧ y.cls ≠ "java/lang/invoke/MethodHandle" ∧ y.cls ≠ "java/lang/invoke/VarHandle" ∧ (parseMethodDescriptor y.desc).map (fun d => d.parameters.length) = some n
def pb_cS (y : MethodName) (b : ByteArray) (nL n : Nat) (ret : Option FieldType) : Prop :=
  (Cond.static y ∈ pb_G) ∧ (Cond.initialized y.cls ∈ pb_G) ∧ (Cond.code y b nL ret ∈ pb_G) ∧ y.cls ≠ "java/lang/invoke/MethodHandle" ∧ y.cls ≠ "java/lang/invoke/VarHandle" ∧ (parseMethodDescriptor y.desc).map (fun d => d.parameters.length) = some n
theorem pb_goodws {y : MethodName} {b : ByteArray} {n : Nat} {ret : Option FieldType} (h : Cond.code y b n ret ∈ pb_G) : GoodIn pb_G (pb_ws y b n ret) := fun w hw => by
  rcases List.mem_cons.mp hw with rfl | hw
  · exact ⟨h, pb_Gg h⟩
  · exact ⟨hw, pb_Gg hw⟩
theorem pb_cw {R : Room} {s : State} {args : Array Value} {own Cc : String} {idx nL n mc ms : Nat} {y : MethodName} {b : ByteArray} {ret : Option FieldType} {rm : Room} (hG : ∀ w ∈ pb_G, w.before args s = true) (cal : pb_cV Cc y b nL n ret) (hlk : Cond.methodLink own idx y ∈ pb_G) (hrc : rm.cells = mc) (hrs : rm.slots = ms) (hR : rm.frames + 1 ≤ R.frames ∧ 8 + (nL + 11) + rm.locals ≤ R.locals) : CallW R s args own Cc idx y b nL ret (pb_ws y b nL ret) rm mc ms n := by
  obtain ⟨h1, h2, h3, h4, h5, h6⟩ := cal
  subst h5
  exact ⟨callB_of n hG (pb_goodws h4) rfl hrc hrs (hG _ h3) (hG _ hlk) h6 hR, hG _ h1, hG _ h2⟩
theorem pb_cwS {R : Room} {s : State} {args : Array Value} {own : String} {idx nL n mc ms : Nat} {y : MethodName} {b : ByteArray} {ret : Option FieldType} {rm : Room} (hG : ∀ w ∈ pb_G, w.before args s = true) (cal : pb_cS y b nL n ret) (hlk : Cond.methodLink own idx y ∈ pb_G) (hrc : rm.cells = mc) (hrs : rm.slots = ms) (hR : rm.frames + 1 ≤ R.frames ∧ 8 + (nL + 11) + rm.locals ≤ R.locals) : CallB R s args own idx y b nL ret (pb_ws y b nL ret) rm mc ms n ∧ (Cond.static y).before args s = true := by
  obtain ⟨h1, h3, h4, h6⟩ := cal
  exact ⟨callB_of n hG (pb_goodws h4) rfl hrc hrs (hG _ h3) (hG _ hlk) h6 hR, hG _ h1⟩
/-- the world's cells and what is new lie in A -/
theorem pb_fr {D : va_G} {A : Nat → Prop} {H0 H : Heap} {ws : va_W} {locs : List Loc} (hw : pb_W D A H0 ws H locs) (hA : ∀ q, H0.size ≤ q → A q) : ∀ q, va_A ws H.size q → A q := by
  rintro q (⟨k2, e2, h⟩ | h)
  · exact hw.2.1.2 k2 _ h
  · exact hA q (Nat.le_trans hw.2.2.1 h)
section PBR
variable {p : Program} {l : Launch} {e : Env} {R : Room} {s : State} {m : MethodId} {args : Array Value} {below : List Frame} {meth : Method} {c : Code} {H : Heap} {locs : List Loc} {cells slots : Nat} {Q : State → Prop}
variable {cc : ByteArray} {pc : Nat} {ls : Array Slot} {rest : List Value} {D : va_G} {k : Nat → ClassId} {own : String} {nL fr lo : Nat} {A : Nat → Prop} {H0 : Heap} {ws ws' : va_W} {o : Nat}
/-- a call of a method of the whole world that answers an int -/
theorem pb_vI {S : Type} {post : Int32 → S → Prop} {wf : S → va_W} {Cc : String} {y : MethodName} {b : ByteArray} {nL' n d mc ms idx : Nat} {ret : Option FieldType} {As st : List Value} (C : pb_C D k own cc nL fr lo p R s m args c) (hA : ∀ q, H0.size ≤ q → A q) (hw : pb_W D A H0 ws H locs) (cal : pb_cV Cc y b nL' n ret) (hlk : Cond.methodLink own idx y ∈ pb_G)
    (hM : Met l y (pb_ws y b nL' ret) (pb_rm d mc ms) (pb_P D k (.ref o :: As) ws H.size) (pb_QI D ws H.size post wf) mc ms (va_A ws H.size)) (hn : As.length = n) (hls : ls.size = nL) (q0 ci : Nat) {fs : List Value} {q : vw_C} (hq : ws[q0]? = some (o, .inr (ci, fs))) (hc : pb_cl[ci]? = some q) (hqc : q.1 = Cc) (hd : d + 1 ≤ fr ∧ 8 + (nL' + 11) + 40 * d ≤ lo) (hf : cells + mc ≤ R.cells ∧ slots + ms ≤ R.slots) (hst : st = As.reverse ++ .ref o :: rest) (hrest : (rest.map fun v => v.category).sum ≤ 8) (hdg : decode cc pc = .ok (.invokevirtual idx, 3))
    (kk : ∀ (r : Int32) (u : S) (H : Heap) (locs : List Loc), post r u → pb_W D A H0 (wf u) H locs → W p l e R s m args below meth c H locs (cells + mc) (slots + ms) Q (F0 m (pc + 3) ls (.int r :: rest))) : W p l e R s m args below meth c H locs cells slots Q (F0 m pc ls st) := by
  have hFc := pb_fr hw hA
  obtain ⟨hx, hb, hml, hown, hG, hkn, hR1, hR2⟩ := C
  obtain ⟨hP, hD, hS⟩ := hw
  subst hst
  refine va_calli (va_runV (As := As) (rest := rest) ⟨hx, hb, hml, hown, hG⟩ hM (pb_cw hG cal hlk rfl rfl ⟨Nat.le_trans hd.1 hR1, Nat.le_trans hd.2 hR2⟩) ⟨pb_P_bl, ?_, fun U hU hW => ⟨rfl, by rw [hU], by rw [hU]; exact hP, hkn.warm hW, hD.weaken (fun _ _ _ _ => trivial)⟩⟩ rfl hn hls rfl (lv_room hrest) hdg hf) hS (fun q _ h => hFc q h) hFc (fun r u t H1 locs1 ht hvm hp hB hz1 hk1 hS1 => ?_)
  · rw [← hqc]; exact va_recv hkn.1 hP hc hq
  · obtain ⟨hP1, hD1⟩ := hB
    rw [ht] at hP1
    exact kk r u H1 locs1 hp ⟨hP1, hD1.weaken (fun _ q _ h => hFc q.1 h), hS1⟩
theorem pb_vV {S : Type} {post : S → Prop} {wf : S → va_W} {Cc : String} {y : MethodName} {b : ByteArray} {nL' n d mc ms idx : Nat} {ret : Option FieldType} {As st : List Value} (C : pb_C D k own cc nL fr lo p R s m args c) (hA : ∀ q, H0.size ≤ q → A q) (hw : pb_W D A H0 ws H locs) (cal : pb_cV Cc y b nL' n ret) (hlk : Cond.methodLink own idx y ∈ pb_G)
    (hM : Met l y (pb_ws y b nL' ret) (pb_rm d mc ms) (pb_P D k (.ref o :: As) ws H.size) (pb_QV D ws H.size post wf) mc ms (va_A ws H.size)) (hn : As.length = n) (hls : ls.size = nL) (q0 ci : Nat) {fs : List Value} {q : vw_C} (hq : ws[q0]? = some (o, .inr (ci, fs))) (hc : pb_cl[ci]? = some q) (hqc : q.1 = Cc) (hd : d + 1 ≤ fr ∧ 8 + (nL' + 11) + 40 * d ≤ lo) (hf : cells + mc ≤ R.cells ∧ slots + ms ≤ R.slots) (hst : st = As.reverse ++ .ref o :: rest) (hrest : (rest.map fun v => v.category).sum ≤ 8) (hdg : decode cc pc = .ok (.invokevirtual idx, 3))
    (kk : ∀ (u : S) (H : Heap) (locs : List Loc), post u → pb_W D A H0 (wf u) H locs → W p l e R s m args below meth c H locs (cells + mc) (slots + ms) Q (F0 m (pc + 3) ls rest)) : W p l e R s m args below meth c H locs cells slots Q (F0 m pc ls st) := by
  have hFc := pb_fr hw hA
  obtain ⟨hx, hb, hml, hown, hG, hkn, hR1, hR2⟩ := C
  obtain ⟨hP, hD, hS⟩ := hw
  subst hst
  refine va_callv (va_runV (As := As) (rest := rest) ⟨hx, hb, hml, hown, hG⟩ hM (pb_cw hG cal hlk rfl rfl ⟨Nat.le_trans hd.1 hR1, Nat.le_trans hd.2 hR2⟩) ⟨pb_P_bl, ?_, fun U hU hW => ⟨rfl, by rw [hU], by rw [hU]; exact hP, hkn.warm hW, hD.weaken (fun _ _ _ _ => trivial)⟩⟩ rfl hn hls rfl (lv_room hrest) hdg hf) hS (fun q _ h => hFc q h) hFc (fun u t H1 locs1 ht hvm hp hB hz1 hk1 hS1 => ?_)
  · rw [← hqc]; exact va_recv hkn.1 hP hc hq
  · obtain ⟨hP1, hD1⟩ := hB
    rw [ht] at hP1
    exact kk u H1 locs1 hp ⟨hP1, hD1.weaken (fun _ q _ h => hFc q.1 h), hS1⟩
/-- a call of a method that reads alone -/
theorem pb_vR {wc : va_W} {post : Int32 → Prop} {Cc : String} {y : MethodName} {b : ByteArray} {nL' n d idx : Nat} {ret : Option FieldType} {As st : List Value} (C : pb_C D k own cc nL fr lo p R s m args c) (hP : va_P D pb_cl wc H) (cal : pb_cV Cc y b nL' n ret) (hlk : Cond.methodLink own idx y ∈ pb_G)
    (hM : Met l y (pb_ws y b nL' ret) (pb_rm d 0 0) (pb_Pr D k (.ref o :: As) wc) (vp_Si post) 0 0 (fun _ => False)) (hn : As.length = n) (hls : ls.size = nL) (q0 ci : Nat) {fs : List Value} {q : vw_C} (hq : wc[q0]? = some (o, .inr (ci, fs))) (hc : pb_cl[ci]? = some q) (hqc : q.1 = Cc) (hd : d + 1 ≤ fr ∧ 8 + (nL' + 11) + 40 * d ≤ lo) (hf : cells ≤ R.cells ∧ slots ≤ R.slots) (hst : st = As.reverse ++ .ref o :: rest) (hrest : (rest.map fun v => v.category).sum ≤ 8) (hdg : decode cc pc = .ok (.invokevirtual idx, 3))
    (kk : ∀ (r : Int32), post r → W p l e R s m args below meth c H locs cells slots Q (F0 m (pc + 3) ls (.int r :: rest))) : W p l e R s m args below meth c H locs cells slots Q (F0 m pc ls st) := by
  obtain ⟨hx, hb, hml, hown, hG, hkn, hR1, hR2⟩ := C
  subst hst
  refine vp_callSi (W.runV (As := As) (rest := rest) ⟨hx, hb, hml, hown, hG⟩ hM (pb_cw hG cal hlk rfl rfl ⟨Nat.le_trans hd.1 hR1, Nat.le_trans hd.2 hR2⟩) ⟨pb_Pr_bl, ?_, fun U hU hW => ⟨rfl, by rw [hU]; exact hP, hkn.warm hW⟩⟩ rfl hn hls rfl (lv_room hrest) hdg hf) kk
  rw [← hqc]; exact va_recv hkn.1 hP hc hq
theorem pb_sR {wc : va_W} {post : Int32 → Prop} {y : MethodName} {b : ByteArray} {nL' n d idx : Nat} {ret : Option FieldType} {As st : List Value} (C : pb_C D k own cc nL fr lo p R s m args c) (hP : va_P D pb_cl wc H) (cal : pb_cS y b nL' n ret) (hlk : Cond.methodLink own idx y ∈ pb_G)
    (hM : Met l y (pb_ws y b nL' ret) (pb_rm d 0 0) (pb_Pr D k As wc) (vp_Si post) 0 0 (fun _ => False)) (hn : As.length = n) (hls : ls.size = nL) (hd : d + 1 ≤ fr ∧ 8 + (nL' + 11) + 40 * d ≤ lo) (hf : cells ≤ R.cells ∧ slots ≤ R.slots) (hst : st = As.reverse ++ rest) (hrest : (rest.map fun v => v.category).sum ≤ 8) (hdg : decode cc pc = .ok (.invokestatic idx, 3))
    (kk : ∀ (r : Int32), post r → W p l e R s m args below meth c H locs cells slots Q (F0 m (pc + 3) ls (.int r :: rest))) : W p l e R s m args below meth c H locs cells slots Q (F0 m pc ls st) := by
  obtain ⟨hx, hb, hml, hown, hG, hkn, hR1, hR2⟩ := C
  subst hst
  exact vp_callSi (W.runS (As := As) (rest := rest) ⟨hx, hb, hml, hown, hG⟩ hM (pb_cwS hG cal hlk rfl rfl ⟨Nat.le_trans hd.1 hR1, Nat.le_trans hd.2 hR2⟩) ⟨pb_Pr_bl, fun U hU hW => ⟨rfl, by rw [hU]; exact hP, hkn.warm hW⟩⟩ rfl hn hls rfl (lv_room hrest) hdg hf) kk
theorem pb_get {Cc : String} {T : u_T} {N ci idx : Nat} {fs : List Value} {v : Value} (C : pb_C D k own cc nL fr lo p R s m args c) (hP : va_P D pb_cl ws H) (hin : ∀ w ∈ u_ws Cc T N, w ∈ pb_G) (q0 : Nat) (he : ws[q0]? = some (o, .inr (ci, fs))) (hc : pb_cl[ci]? = some (Cc, T, N)) (kf : Nat) (hk : kf < N) (hlk : Cond.fieldLink own idx (T kf).1 (T kf).2.1 (T kf).2.2.1 ∈ pb_G) (hv : fs[kf]? = some v) (hdg : decode cc pc = .ok (.getfield idx, 3))
    (kk : W p l e R s m args below meth c H locs cells slots Q (F0 m (pc + 3) ls (v :: rest))) : W p l e R s m args below meth c H locs cells slots Q (F0 m pc ls (.ref o :: rest)) :=
  va_get C.1 C.2.1 C.2.2.2.2.1 hin C.2.2.2.1 C.2.2.2.2.2.1.1 hP q0 he hc kf hk (C.2.2.2.2.1 _ hlk) (fun _ h => h) hv hdg kk
theorem pb_put {Cc : String} {T : u_T} {N ci idx : Nat} {fs : List Value} {v : Value} {ty : FieldType} (C : pb_C D k own cc nL fr lo p R s m args c) (hw : pb_W D A H0 ws H locs) (hin : ∀ w ∈ u_ws Cc T N, w ∈ pb_G) (ty0 : Nat → FieldType) (hty : ∀ k, k < N → parseFieldDescriptor (T k).2.2.1 = some (ty0 k)) (hnm : ∀ a, a < N → ∀ b, b < N → a ≠ b → (T a).2.1 ≠ (T b).2.1) (q0 : Nat) (he : ws[q0]? = some (o, .inr (ci, fs))) (hc : pb_cl[ci]? = some (Cc, T, N)) (kf : Nat) (hk : kf < N) (hlk : Cond.fieldLink own idx (T kf).1 (T kf).2.1 (T kf).2.2.1 ∈ pb_G) (hfin : (T kf).2.2.2 = false) (hd : parseFieldDescriptor (T kf).2.2.1 = some ty) (hn : narrow ty v = v) (hfit : fits ty v = true) (hl : kf < fs.length) (hs : ws.set q0 (o, .inr (ci, fs.set kf v)) = ws') (hdg : decode cc pc = .ok (.putfield idx, 3))
    (kk : ∀ (H : Heap) (locs : List Loc), pb_W D A H0 ws' H locs → W p l e R s m args below meth c H locs cells slots Q (F0 m (pc + 3) ls rest)) : W p l e R s m args below meth c H locs cells slots Q (F0 m pc ls (v :: .ref o :: rest)) := by
  subst hs
  exact va_put C.1 C.2.1 C.2.2.2.2.1 hin ty0 hty hnm C.2.2.2.1 C.2.2.2.2.2.1.1 hw.1 hw.2.1 hw.2.2 q0 he hc kf hk (C.2.2.2.2.1 _ hlk) (fun _ h => h) hfin hd hn hfit hl hdg (fun H1 locs1 h1 h2 h3 => kk H1 locs1 ⟨h1, h2, h3⟩)
abbrev pb_B (cA : ClassId) (n : Nat) (g : Nat → Nat) : va_E := .inl (cA, n, .inl (fun j => sb_b (g j)))
abbrev pb_I (cA : ClassId) (n : Nat) (g : Nat → Nat) : va_E := .inl (cA, n, .inl (fun j => nI (g j)))
theorem pb_upB {g : Nat → Nat} {i c : Nat} {x : Int32} (hi : i < 2 ^ 31) (hx : x.toInt8.toInt32 = sb_b c) : upd (fun j => sb_b (g j)) (nI i).toNatClampNeg (vp_nar .byte x) = fun j => sb_b (va_up g i c j) := by
  rw [nI_clamp hi, vp_nar_byte, hx]
  funext j
  unfold upd va_up
  by_cases h : j = i <;> simp [h]
theorem pb_upI {g : Nat → Nat} {i v : Nat} (hi : i < 2 ^ 31) : upd (fun j => nI (g j)) (nI i).toNatClampNeg (nI v) = fun j => nI (va_up g i v j) := by
  rw [nI_clamp hi]
  funext j
  unfold upd va_up
  by_cases h : j = i <;> simp [h]
theorem pb_bld {n i : Nat} {g : Nat → Nat} (C : pb_C D k own cc nL fr lo p R s m args c) (hP : va_P D pb_cl ws H) (q0 : Nat) (ha : ws[q0]? = some (o, pb_B (k 0) n g)) (hi : i < n) (hn : n < 2 ^ 31) (hdg : decode cc pc = .ok (.baload, 1))
    (kk : W p l e R s m args below meth c H locs cells slots Q (F0 m (pc + 1) ls (.int (sb_b (g i)) :: rest))) : W p l e R s m args below meth c H locs cells slots Q (F0 m pc ls (.int (nI i) :: .ref o :: rest)) := by
  refine va_bald C.1 C.2.1 C.2.2.2.2.2.1.1 hP q0 0 ha rfl (vp_in_nI hi hn) hdg ?_
  rw [nI_clamp (by omega)]
  exact kk
theorem pb_ild {n i : Nat} {g : Nat → Nat} (C : pb_C D k own cc nL fr lo p R s m args c) (hP : va_P D pb_cl ws H) (q0 : Nat) (ha : ws[q0]? = some (o, pb_I (k 1) n g)) (hi : i < n) (hn : n < 2 ^ 31) (hdg : decode cc pc = .ok (.iaload, 1))
    (kk : W p l e R s m args below meth c H locs cells slots Q (F0 m (pc + 1) ls (.int (nI (g i)) :: rest))) : W p l e R s m args below meth c H locs cells slots Q (F0 m pc ls (.int (nI i) :: .ref o :: rest)) := by
  refine va_iald C.1 C.2.1 C.2.2.2.2.2.1.1 hP q0 1 ha rfl (vp_in_nI hi hn) hdg ?_
  rw [nI_clamp (by omega)]
  exact kk
theorem pb_bst {n i v : Nat} {g : Nat → Nat} {x : Int32} (C : pb_C D k own cc nL fr lo p R s m args c) (hw : pb_W D A H0 ws H locs) (q0 : Nat) (ha : ws[q0]? = some (o, pb_B (k 0) n g)) (hi : i < n) (hn : n < 2 ^ 31) (hx : x.toInt8.toInt32 = sb_b v) (hs : ws.set q0 (o, pb_B (k 0) n (va_up g i v)) = ws') (hdg : decode cc pc = .ok (.bastore, 1))
    (kk : ∀ (H : Heap) (locs : List Loc), pb_W D A H0 ws' H locs → W p l e R s m args below meth c H locs cells slots Q (F0 m (pc + 1) ls rest)) : W p l e R s m args below meth c H locs cells slots Q (F0 m pc ls (.int x :: .int (nI i) :: .ref o :: rest)) := by
  subst hs
  refine va_bast C.1 C.2.1 C.2.2.2.2.2.1.1 hw.1 hw.2.1 hw.2.2 q0 0 ha rfl (vp_in_nI hi hn) hdg (fun H1 locs1 h1 h2 h3 => kk H1 locs1 ?_)
  rw [pb_upB (by omega) hx] at h1 h2
  exact ⟨h1, h2, h3⟩
theorem pb_ist {n i v : Nat} {g : Nat → Nat} (C : pb_C D k own cc nL fr lo p R s m args c) (hw : pb_W D A H0 ws H locs) (q0 : Nat) (ha : ws[q0]? = some (o, pb_I (k 1) n g)) (hi : i < n) (hn : n < 2 ^ 31) (hs : ws.set q0 (o, pb_I (k 1) n (va_up g i v)) = ws') (hdg : decode cc pc = .ok (.iastore, 1))
    (kk : ∀ (H : Heap) (locs : List Loc), pb_W D A H0 ws' H locs → W p l e R s m args below meth c H locs cells slots Q (F0 m (pc + 1) ls rest)) : W p l e R s m args below meth c H locs cells slots Q (F0 m pc ls (.int (nI v) :: .int (nI i) :: .ref o :: rest)) := by
  subst hs
  refine va_iast C.1 C.2.1 C.2.2.2.2.2.1.1 hw.1 hw.2.1 hw.2.2 q0 1 ha rfl (vp_in_nI hi hn) hdg (fun H1 locs1 h1 h2 h3 => kk H1 locs1 ?_)
  rw [pb_upI (by omega)] at h1 h2
  exact ⟨h1, h2, h3⟩
/-- the top value, in another spelling -/
theorem pb_top {x y : Int32} (h : x = y) (kk : W p l e R s m args below meth c H locs cells slots Q (F0 m pc ls (.int y :: rest))) : W p l e R s m args below meth c H locs cells slots Q (F0 m pc ls (.int x :: rest)) := h ▸ kk
theorem pb_add {a b : Nat} (hx : p.tables.exec = Jvm.exec) (hb : c.code = cc) (hdg : decode cc pc = .ok (.iadd, 1)) (kk : W p l e R s m args below meth c H locs cells slots Q (F0 m (pc + 1) ls (.int (nI (a + b)) :: rest))) : W p l e R s m args below meth c H locs cells slots Q (F0 m pc ls (.int (nI b) :: .int (nI a) :: rest)) :=
  lv_iadd hx hb hdg (pb_top (nI_add a b) kk)
theorem pb_sub {a b : Nat} (h : b ≤ a) (hx : p.tables.exec = Jvm.exec) (hb : c.code = cc) (hdg : decode cc pc = .ok (.isub, 1)) (kk : W p l e R s m args below meth c H locs cells slots Q (F0 m (pc + 1) ls (.int (nI (a - b)) :: rest))) : W p l e R s m args below meth c H locs cells slots Q (F0 m pc ls (.int (nI b) :: .int (nI a) :: rest)) :=
  lv_isub hx hb hdg (pb_top (pk_sub h) kk)
theorem pb_mul {a b : Nat} (hx : p.tables.exec = Jvm.exec) (hb : c.code = cc) (hdg : decode cc pc = .ok (.imul, 1)) (kk : W p l e R s m args below meth c H locs cells slots Q (F0 m (pc + 1) ls (.int (nI (a * b)) :: rest))) : W p l e R s m args below meth c H locs cells slots Q (F0 m pc ls (.int (nI b) :: .int (nI a) :: rest)) :=
  lv_imul hx hb hdg (pb_top (pk_mul a b) kk)
/-- a byte made whole: x & 255 -/
theorem pb_and {a : Nat} (h : a < 256) (hx : p.tables.exec = Jvm.exec) (hb : c.code = cc) (hdg : decode cc pc = .ok (.iand, 1)) (kk : W p l e R s m args below meth c H locs cells slots Q (F0 m (pc + 1) ls (.int (nI a) :: rest))) : W p l e R s m args below meth c H locs cells slots Q (F0 m pc ls (.int (nI 255) :: .int (sb_b a) :: rest)) :=
  lv_iand hx hb hdg (pb_top (sb_byte a h).1 kk)
theorem pb_ge {a b tgt : Nat} {off : Int} (ha : a < 2 ^ 31) (hb2 : b < 2 ^ 31) (hx : p.tables.exec = Jvm.exec) (hb : c.code = cc) (hdg : decode cc pc = .ok (.if_icmp .ge off, 3)) (ht : (pc : Int) + off = (tgt : Int)) (kt : b ≤ a → W p l e R s m args below meth c H locs cells slots Q (F0 m tgt ls rest)) (kf : a < b → W p l e R s m args below meth c H locs cells slots Q (F0 m (pc + 3) ls rest)) : W p l e R s m args below meth c H locs cells slots Q (F0 m pc ls (.int (nI b) :: .int (nI a) :: rest)) :=
  lv_icmp_ge hx hb hdg ht (fun h => kt ((nI_leI hb2 ha).mp h)) (fun h => kf (Nat.lt_of_not_le fun q => h ((nI_leI hb2 ha).mpr q)))
theorem pb_gt {a b tgt : Nat} {off : Int} (ha : a < 2 ^ 31) (hb2 : b < 2 ^ 31) (hx : p.tables.exec = Jvm.exec) (hb : c.code = cc) (hdg : decode cc pc = .ok (.if_icmp .gt off, 3)) (ht : (pc : Int) + off = (tgt : Int)) (kt : b < a → W p l e R s m args below meth c H locs cells slots Q (F0 m tgt ls rest)) (kf : a ≤ b → W p l e R s m args below meth c H locs cells slots Q (F0 m (pc + 3) ls rest)) : W p l e R s m args below meth c H locs cells slots Q (F0 m pc ls (.int (nI b) :: .int (nI a) :: rest)) :=
  lv_icmp_gt hx hb hdg ht (fun h => kt ((nI_ltI hb2 ha).mp h)) (fun h => kf (Nat.le_of_not_lt fun q => h ((nI_ltI hb2 ha).mpr q)))
theorem pb_lt {a b tgt : Nat} {off : Int} (ha : a < 2 ^ 31) (hb2 : b < 2 ^ 31) (hx : p.tables.exec = Jvm.exec) (hb : c.code = cc) (hdg : decode cc pc = .ok (.if_icmp .lt off, 3)) (ht : (pc : Int) + off = (tgt : Int)) (kt : a < b → W p l e R s m args below meth c H locs cells slots Q (F0 m tgt ls rest)) (kf : b ≤ a → W p l e R s m args below meth c H locs cells slots Q (F0 m (pc + 3) ls rest)) : W p l e R s m args below meth c H locs cells slots Q (F0 m pc ls (.int (nI b) :: .int (nI a) :: rest)) :=
  lv_icmp_lt hx hb hdg ht (fun h => kt ((nI_ltI ha hb2).mp h)) (fun h => kf (Nat.le_of_not_lt fun q => h ((nI_ltI ha hb2).mpr q)))
theorem pb_le {a b tgt : Nat} {off : Int} (ha : a < 2 ^ 31) (hb2 : b < 2 ^ 31) (hx : p.tables.exec = Jvm.exec) (hb : c.code = cc) (hdg : decode cc pc = .ok (.if_icmp .le off, 3)) (ht : (pc : Int) + off = (tgt : Int)) (kt : a ≤ b → W p l e R s m args below meth c H locs cells slots Q (F0 m tgt ls rest)) (kf : b < a → W p l e R s m args below meth c H locs cells slots Q (F0 m (pc + 3) ls rest)) : W p l e R s m args below meth c H locs cells slots Q (F0 m pc ls (.int (nI b) :: .int (nI a) :: rest)) :=
  lv_icmp_le hx hb hdg ht (fun h => kt ((nI_leI ha hb2).mp h)) (fun h => kf (Nat.lt_of_not_le fun q => h ((nI_leI ha hb2).mpr q)))
theorem pb_eq {a b tgt : Nat} {off : Int} (ha : a < 2 ^ 31) (hb2 : b < 2 ^ 31) (hx : p.tables.exec = Jvm.exec) (hb : c.code = cc) (hdg : decode cc pc = .ok (.if_icmp .eq off, 3)) (ht : (pc : Int) + off = (tgt : Int)) (kt : a = b → W p l e R s m args below meth c H locs cells slots Q (F0 m tgt ls rest)) (kf : a ≠ b → W p l e R s m args below meth c H locs cells slots Q (F0 m (pc + 3) ls rest)) : W p l e R s m args below meth c H locs cells slots Q (F0 m pc ls (.int (nI b) :: .int (nI a) :: rest)) :=
  lv_icmp_eq hx hb hdg ht (fun h => kt ((nI_eq ha hb2).mp h)) (fun h => kf (fun q => h ((nI_eq ha hb2).mpr q)))
theorem pb_ne {a b tgt : Nat} {off : Int} (ha : a < 2 ^ 31) (hb2 : b < 2 ^ 31) (hx : p.tables.exec = Jvm.exec) (hb : c.code = cc) (hdg : decode cc pc = .ok (.if_icmp .ne off, 3)) (ht : (pc : Int) + off = (tgt : Int)) (kt : a ≠ b → W p l e R s m args below meth c H locs cells slots Q (F0 m tgt ls rest)) (kf : a = b → W p l e R s m args below meth c H locs cells slots Q (F0 m (pc + 3) ls rest)) : W p l e R s m args below meth c H locs cells slots Q (F0 m pc ls (.int (nI b) :: .int (nI a) :: rest)) :=
  lv_icmp_ne hx hb hdg ht (fun h => kt (fun q => h ((nI_eq ha hb2).mpr q))) (fun h => kf ((nI_eq ha hb2).mp h))
theorem pb_z {a tgt : Nat} {off : Int} (ha : a < 2 ^ 31) (hx : p.tables.exec = Jvm.exec) (hb : c.code = cc) (hdg : decode cc pc = .ok (.ifCond .eq off, 3)) (ht : (pc : Int) + off = (tgt : Int)) (kt : a = 0 → W p l e R s m args below meth c H locs cells slots Q (F0 m tgt ls rest)) (kf : a ≠ 0 → W p l e R s m args below meth c H locs cells slots Q (F0 m (pc + 3) ls rest)) : W p l e R s m args below meth c H locs cells slots Q (F0 m pc ls (.int (nI a) :: rest)) :=
  lv_if_eq hx hb hdg ht (fun h => kt (by rcases Nat.eq_zero_or_pos a with q | q; exact q; exact absurd h (nI_ne0 q ha))) (fun h => kf (fun q => h (by rw [q]; exact nI_0)))
theorem pb_nz {a tgt : Nat} {off : Int} (ha : a < 2 ^ 31) (hx : p.tables.exec = Jvm.exec) (hb : c.code = cc) (hdg : decode cc pc = .ok (.ifCond .ne off, 3)) (ht : (pc : Int) + off = (tgt : Int)) (kt : a ≠ 0 → W p l e R s m args below meth c H locs cells slots Q (F0 m tgt ls rest)) (kf : a = 0 → W p l e R s m args below meth c H locs cells slots Q (F0 m (pc + 3) ls rest)) : W p l e R s m args below meth c H locs cells slots Q (F0 m pc ls (.int (nI a) :: rest)) :=
  lv_if_ne hx hb hdg ht (fun h => kt (fun q => h (by rw [q]; exact nI_0))) (fun h => kf (by rcases Nat.eq_zero_or_pos a with q | q; exact q; exact absurd h (nI_ne0 q ha)))
end PBR
theorem pb_i1 (i : Nat) : nI i + Int32.ofInt 1 = nI (i + 1) := nI_1 i
theorem pb_i4 (i : Nat) : nI i + Int32.ofInt 4 = nI (i + 4) := nI_add i 4
/-- j - 1, as an int that may be -1 -/
def pb_m (j : Nat) : Int32 := nI j - 1
theorem pb_m_s (j : Nat) : pb_m (j + 1) = nI j := nI_pred j
theorem pb_m_0 : pb_m 0 = -1 := by decide +kernel
theorem pb_m_dec (j : Nat) : nI j + Int32.ofInt (-1) = pb_m j := by
  unfold pb_m
  rw [show Int32.ofInt (-1) = -1 by decide, Int32.sub_eq_add_neg]
theorem pb_i2b (x : Int32) : x.toInt8.toInt32.toInt8.toInt32 = x.toInt8.toInt32 := pk_vb x
end
section
-- ===== the two worlds (by gen/world.py) =====
abbrev pb_rows (ra : Nat → Nat) (k : Nat → ClassId) (n : Nat) (M : Nat → Nat → Nat) : va_W := (List.range n).map (fun j => (ra j, pb_B (k 0) 64 (M j)))
theorem pb_rows_get {X : va_W} {ra : Nat → Nat} {k : Nat → ClassId} {n b : Nat} {M : Nat → Nat → Nat} (hb : b < n) : (X ++ pb_rows ra k n M)[X.length + b]? = some (ra b, pb_B (k 0) 64 (M b)) := by
  rw [List.getElem?_append_right (by omega), Nat.add_sub_cancel_left, List.getElem?_map, List.getElem?_range hb]
  rfl
theorem pb_rows_set {X : va_W} {ra : Nat → Nat} {k : Nat → ClassId} {n b : Nat} {M : Nat → Nat → Nat} {g : Nat → Nat} : (X ++ pb_rows ra k n M).set (X.length + b) (ra b, pb_B (k 0) 64 g) = X ++ pb_rows ra k n (va_up M b g) := by
  rw [List.set_append_right _ _ (by omega), Nat.add_sub_cancel_left]
  congr 1
  apply List.ext_getElem?
  intro j
  rw [List.getElem?_set]
  by_cases hj : j < n
  · by_cases h : b = j
    · subst h
      simp [pb_rows, va_up, hj]
    · have h2 : ¬ j = b := fun q => h q.symm
      simp [pb_rows, va_up, hj, h, h2]
  · by_cases h : b = j
    · subst h
      simp [pb_rows, hj]
    · simp [pb_rows, hj, h]
/-- the book: object, pen, outer array, fed, page, entries, blocks, places, was, the rows -/
abbrev bk_X (a ra : Nat → Nat) (k : Nat → ClassId) (n fs op : Nat) (tn : Int32) (mn sz : Nat) (fd pg en bl pl wa : Nat → Nat) : va_W :=
  [(a 0, .inr (0, [.ref (a 2), .ref (a 1), .ref (a 3), .ref (a 4), .int (nI fs), .int (nI op), .int tn, .ref (a 5), .int (nI mn)])),
   (a 1, .inr (1, [.ref (a 2), .ref (a 6), .ref (a 7), .ref (a 8), .int (nI sz)])),
   (a 2, .inl (k 2, n, .inr (.inr (.inr (.inr (fun j => some (ra j))))))),
   (a 3, pb_B (k 0) 48 fd), (a 4, pb_B (k 0) 64 pg), (a 5, pb_I (k 1) 40 en), (a 6, pb_I (k 1) 129 bl), (a 7, pb_I (k 1) 129 pl), (a 8, pb_B (k 0) 129 wa)]
abbrev bk_W (a ra : Nat → Nat) (k : Nat → ClassId) (n fs op : Nat) (tn : Int32) (mn sz : Nat) (fd pg en bl pl wa : Nat → Nat) (M : Nat → Nat → Nat) : va_W := bk_X a ra k n fs op tn mn sz fd pg en bl pl wa ++ pb_rows ra k n M
/-- the reference: object, store, block, fed, where, before -/
abbrev md_W (a : Nat → Nat) (k : Nat → ClassId) (n op tn mn th fl wr : Nat) (st bl fd wh bf : Nat → Nat) : va_W :=
  [(a 0, .inr (2, [.int (nI n), .ref (a 1), .int (nI op), .int (nI tn), .int (nI mn), .int (nI th), .ref (a 2), .ref (a 3), .int (nI fl), .ref (a 4), .ref (a 5), .int (nI wr)])),
   (a 1, pb_I (k 1) 4096 st), (a 2, pb_I (k 1) 40 bl), (a 3, pb_I (k 1) 48 fd), (a 4, pb_I (k 1) 129 wh), (a 5, pb_I (k 1) 129 bf)]
section PBF
variable {p : Program} {l : Launch} {e : Env} {R : Room} {s : State} {m : MethodId} {args : Array Value} {below : List Frame} {meth : Method} {c : Code} {H : Heap} {locs : List Loc} {cells slots : Nat} {Q : State → Prop}
variable {cc : ByteArray} {pc : Nat} {ls : Array Slot} {rest : List Value} {D : va_G} {k : Nat → ClassId} {own : String} {nL fr lo : Nat} {A : Nat → Prop} {H0 : Heap}

theorem bk_g_store {a ra : Nat → Nat} {n fs op : Nat} {tn : Int32} {mn sz : Nat} {fd pg en bl pl wa : Nat → Nat} {M : Nat → Nat → Nat} (C : pb_C D k R_Bk cc nL fr lo p R s m args c) (hP : va_P D pb_cl (bk_W a ra k n fs op tn mn sz fd pg en bl pl wa M) H) (hdg : decode cc pc = .ok (.getfield 31, 3)) (kk : W p l e R s m args below meth c H locs cells slots Q (F0 m (pc + 3) ls (.ref (a 2) :: rest))) : W p l e R s m args below meth c H locs cells slots Q (F0 m pc ls (.ref (a 0) :: rest)) :=
  pb_get C hP i_Bk 0 rfl rfl 0 (by decide) m_95 rfl hdg kk
theorem bk_g_pen {a ra : Nat → Nat} {n fs op : Nat} {tn : Int32} {mn sz : Nat} {fd pg en bl pl wa : Nat → Nat} {M : Nat → Nat → Nat} (C : pb_C D k R_Bk cc nL fr lo p R s m args c) (hP : va_P D pb_cl (bk_W a ra k n fs op tn mn sz fd pg en bl pl wa M) H) (hdg : decode cc pc = .ok (.getfield 39, 3)) (kk : W p l e R s m args below meth c H locs cells slots Q (F0 m (pc + 3) ls (.ref (a 1) :: rest))) : W p l e R s m args below meth c H locs cells slots Q (F0 m pc ls (.ref (a 0) :: rest)) :=
  pb_get C hP i_Bk 0 rfl rfl 1 (by decide) m_96 rfl hdg kk
theorem bk_g_fed {a ra : Nat → Nat} {n fs op : Nat} {tn : Int32} {mn sz : Nat} {fd pg en bl pl wa : Nat → Nat} {M : Nat → Nat → Nat} (C : pb_C D k R_Bk cc nL fr lo p R s m args c) (hP : va_P D pb_cl (bk_W a ra k n fs op tn mn sz fd pg en bl pl wa M) H) (hdg : decode cc pc = .ok (.getfield 9, 3)) (kk : W p l e R s m args below meth c H locs cells slots Q (F0 m (pc + 3) ls (.ref (a 3) :: rest))) : W p l e R s m args below meth c H locs cells slots Q (F0 m pc ls (.ref (a 0) :: rest)) :=
  pb_get C hP i_Bk 0 rfl rfl 2 (by decide) m_97 rfl hdg kk
theorem bk_g_page {a ra : Nat → Nat} {n fs op : Nat} {tn : Int32} {mn sz : Nat} {fd pg en bl pl wa : Nat → Nat} {M : Nat → Nat → Nat} (C : pb_C D k R_Bk cc nL fr lo p R s m args c) (hP : va_P D pb_cl (bk_W a ra k n fs op tn mn sz fd pg en bl pl wa M) H) (hdg : decode cc pc = .ok (.getfield 13, 3)) (kk : W p l e R s m args below meth c H locs cells slots Q (F0 m (pc + 3) ls (.ref (a 4) :: rest))) : W p l e R s m args below meth c H locs cells slots Q (F0 m pc ls (.ref (a 0) :: rest)) :=
  pb_get C hP i_Bk 0 rfl rfl 3 (by decide) m_98 rfl hdg kk
theorem bk_g_fedSize {a ra : Nat → Nat} {n fs op : Nat} {tn : Int32} {mn sz : Nat} {fd pg en bl pl wa : Nat → Nat} {M : Nat → Nat → Nat} (C : pb_C D k R_Bk cc nL fr lo p R s m args c) (hP : va_P D pb_cl (bk_W a ra k n fs op tn mn sz fd pg en bl pl wa M) H) (hdg : decode cc pc = .ok (.getfield 74, 3)) (kk : W p l e R s m args below meth c H locs cells slots Q (F0 m (pc + 3) ls (.int (nI fs) :: rest))) : W p l e R s m args below meth c H locs cells slots Q (F0 m pc ls (.ref (a 0) :: rest)) :=
  pb_get C hP i_Bk 0 rfl rfl 4 (by decide) m_99 rfl hdg kk
theorem bk_p_fedSize {a ra : Nat → Nat} {n fs op : Nat} {tn : Int32} {mn sz : Nat} {fd pg en bl pl wa : Nat → Nat} {M : Nat → Nat → Nat} {v : Nat} (C : pb_C D k R_Bk cc nL fr lo p R s m args c) (hw : pb_W D A H0 (bk_W a ra k n fs op tn mn sz fd pg en bl pl wa M) H locs) (hdg : decode cc pc = .ok (.putfield 74, 3)) (kk : ∀ (H : Heap) (locs : List Loc), pb_W D A H0 (bk_W a ra k n v op tn mn sz fd pg en bl pl wa M) H locs → W p l e R s m args below meth c H locs cells slots Q (F0 m (pc + 3) ls rest)) : W p l e R s m args below meth c H locs cells slots Q (F0 m pc ls (.int (nI v) :: .ref (a 0) :: rest)) :=
  pb_put (ty := .int) C hw i_Bk t_Bk t_Bk_ok n_Bk 0 rfl rfl 4 (by decide) m_99 rfl (by decide +kernel) rfl rfl (Nat.le_of_ble_eq_true rfl) rfl hdg kk
theorem bk_g_isOpen {a ra : Nat → Nat} {n fs op : Nat} {tn : Int32} {mn sz : Nat} {fd pg en bl pl wa : Nat → Nat} {M : Nat → Nat → Nat} (C : pb_C D k R_Bk cc nL fr lo p R s m args c) (hP : va_P D pb_cl (bk_W a ra k n fs op tn mn sz fd pg en bl pl wa M) H) (hdg : decode cc pc = .ok (.getfield 96, 3)) (kk : W p l e R s m args below meth c H locs cells slots Q (F0 m (pc + 3) ls (.int (nI op) :: rest))) : W p l e R s m args below meth c H locs cells slots Q (F0 m pc ls (.ref (a 0) :: rest)) :=
  pb_get C hP i_Bk 0 rfl rfl 5 (by decide) m_100 rfl hdg kk
theorem bk_p_isOpen {a ra : Nat → Nat} {n fs op : Nat} {tn : Int32} {mn sz : Nat} {fd pg en bl pl wa : Nat → Nat} {M : Nat → Nat → Nat} {v : Nat} (C : pb_C D k R_Bk cc nL fr lo p R s m args c) (hw : pb_W D A H0 (bk_W a ra k n fs op tn mn sz fd pg en bl pl wa M) H locs) (hv : v ≤ 1) (hdg : decode cc pc = .ok (.putfield 96, 3)) (kk : ∀ (H : Heap) (locs : List Loc), pb_W D A H0 (bk_W a ra k n fs v tn mn sz fd pg en bl pl wa M) H locs → W p l e R s m args below meth c H locs cells slots Q (F0 m (pc + 3) ls rest)) : W p l e R s m args below meth c H locs cells slots Q (F0 m pc ls (.int (nI v) :: .ref (a 0) :: rest)) :=
  pb_put (ty := .boolean) C hw i_Bk t_Bk t_Bk_ok n_Bk 0 rfl rfl 5 (by decide) m_100 rfl (by decide +kernel) (by rcases (show v = 0 ∨ v = 1 by omega) with rfl | rfl <;> rfl) (by rcases (show v = 0 ∨ v = 1 by omega) with rfl | rfl <;> decide +kernel) (Nat.le_of_ble_eq_true rfl) rfl hdg kk
theorem bk_g_turn {a ra : Nat → Nat} {n fs op : Nat} {tn : Int32} {mn sz : Nat} {fd pg en bl pl wa : Nat → Nat} {M : Nat → Nat → Nat} (C : pb_C D k R_Bk cc nL fr lo p R s m args c) (hP : va_P D pb_cl (bk_W a ra k n fs op tn mn sz fd pg en bl pl wa M) H) (hdg : decode cc pc = .ok (.getfield 85, 3)) (kk : W p l e R s m args below meth c H locs cells slots Q (F0 m (pc + 3) ls (.int tn :: rest))) : W p l e R s m args below meth c H locs cells slots Q (F0 m pc ls (.ref (a 0) :: rest)) :=
  pb_get C hP i_Bk 0 rfl rfl 6 (by decide) m_101 rfl hdg kk
theorem bk_p_turn {a ra : Nat → Nat} {n fs op : Nat} {tn : Int32} {mn sz : Nat} {fd pg en bl pl wa : Nat → Nat} {M : Nat → Nat → Nat} {v : Int32} (C : pb_C D k R_Bk cc nL fr lo p R s m args c) (hw : pb_W D A H0 (bk_W a ra k n fs op tn mn sz fd pg en bl pl wa M) H locs) (hdg : decode cc pc = .ok (.putfield 85, 3)) (kk : ∀ (H : Heap) (locs : List Loc), pb_W D A H0 (bk_W a ra k n fs op v mn sz fd pg en bl pl wa M) H locs → W p l e R s m args below meth c H locs cells slots Q (F0 m (pc + 3) ls rest)) : W p l e R s m args below meth c H locs cells slots Q (F0 m pc ls (.int v :: .ref (a 0) :: rest)) :=
  pb_put (ty := .int) C hw i_Bk t_Bk t_Bk_ok n_Bk 0 rfl rfl 6 (by decide) m_101 rfl (by decide +kernel) rfl rfl (Nat.le_of_ble_eq_true rfl) rfl hdg kk
theorem bk_g_entries {a ra : Nat → Nat} {n fs op : Nat} {tn : Int32} {mn sz : Nat} {fd pg en bl pl wa : Nat → Nat} {M : Nat → Nat → Nat} (C : pb_C D k R_Bk cc nL fr lo p R s m args c) (hP : va_P D pb_cl (bk_W a ra k n fs op tn mn sz fd pg en bl pl wa M) H) (hdg : decode cc pc = .ok (.getfield 16, 3)) (kk : W p l e R s m args below meth c H locs cells slots Q (F0 m (pc + 3) ls (.ref (a 5) :: rest))) : W p l e R s m args below meth c H locs cells slots Q (F0 m pc ls (.ref (a 0) :: rest)) :=
  pb_get C hP i_Bk 0 rfl rfl 7 (by decide) m_102 rfl hdg kk
theorem bk_g_many {a ra : Nat → Nat} {n fs op : Nat} {tn : Int32} {mn sz : Nat} {fd pg en bl pl wa : Nat → Nat} {M : Nat → Nat → Nat} (C : pb_C D k R_Bk cc nL fr lo p R s m args c) (hP : va_P D pb_cl (bk_W a ra k n fs op tn mn sz fd pg en bl pl wa M) H) (hdg : decode cc pc = .ok (.getfield 67, 3)) (kk : W p l e R s m args below meth c H locs cells slots Q (F0 m (pc + 3) ls (.int (nI mn) :: rest))) : W p l e R s m args below meth c H locs cells slots Q (F0 m pc ls (.ref (a 0) :: rest)) :=
  pb_get C hP i_Bk 0 rfl rfl 8 (by decide) m_103 rfl hdg kk
theorem bk_p_many {a ra : Nat → Nat} {n fs op : Nat} {tn : Int32} {mn sz : Nat} {fd pg en bl pl wa : Nat → Nat} {M : Nat → Nat → Nat} {v : Nat} (C : pb_C D k R_Bk cc nL fr lo p R s m args c) (hw : pb_W D A H0 (bk_W a ra k n fs op tn mn sz fd pg en bl pl wa M) H locs) (hdg : decode cc pc = .ok (.putfield 67, 3)) (kk : ∀ (H : Heap) (locs : List Loc), pb_W D A H0 (bk_W a ra k n fs op tn v sz fd pg en bl pl wa M) H locs → W p l e R s m args below meth c H locs cells slots Q (F0 m (pc + 3) ls rest)) : W p l e R s m args below meth c H locs cells slots Q (F0 m pc ls (.int (nI v) :: .ref (a 0) :: rest)) :=
  pb_put (ty := .int) C hw i_Bk t_Bk t_Bk_ok n_Bk 0 rfl rfl 8 (by decide) m_103 rfl (by decide +kernel) rfl rfl (Nat.le_of_ble_eq_true rfl) rfl hdg kk
theorem pn_g_store {a ra : Nat → Nat} {n fs op : Nat} {tn : Int32} {mn sz : Nat} {fd pg en bl pl wa : Nat → Nat} {M : Nat → Nat → Nat} (C : pb_C D k R_Pn cc nL fr lo p R s m args c) (hP : va_P D pb_cl (bk_W a ra k n fs op tn mn sz fd pg en bl pl wa M) H) (hdg : decode cc pc = .ok (.getfield 22, 3)) (kk : W p l e R s m args below meth c H locs cells slots Q (F0 m (pc + 3) ls (.ref (a 2) :: rest))) : W p l e R s m args below meth c H locs cells slots Q (F0 m pc ls (.ref (a 1) :: rest)) :=
  pb_get C hP i_Pn 1 rfl rfl 0 (by decide) m_34 rfl hdg kk
theorem pn_g_blocks {a ra : Nat → Nat} {n fs op : Nat} {tn : Int32} {mn sz : Nat} {fd pg en bl pl wa : Nat → Nat} {M : Nat → Nat → Nat} (C : pb_C D k R_Pn cc nL fr lo p R s m args c) (hP : va_P D pb_cl (bk_W a ra k n fs op tn mn sz fd pg en bl pl wa M) H) (hdg : decode cc pc = .ok (.getfield 9, 3)) (kk : W p l e R s m args below meth c H locs cells slots Q (F0 m (pc + 3) ls (.ref (a 6) :: rest))) : W p l e R s m args below meth c H locs cells slots Q (F0 m pc ls (.ref (a 1) :: rest)) :=
  pb_get C hP i_Pn 1 rfl rfl 1 (by decide) m_35 rfl hdg kk
theorem pn_g_places {a ra : Nat → Nat} {n fs op : Nat} {tn : Int32} {mn sz : Nat} {fd pg en bl pl wa : Nat → Nat} {M : Nat → Nat → Nat} (C : pb_C D k R_Pn cc nL fr lo p R s m args c) (hP : va_P D pb_cl (bk_W a ra k n fs op tn mn sz fd pg en bl pl wa M) H) (hdg : decode cc pc = .ok (.getfield 15, 3)) (kk : W p l e R s m args below meth c H locs cells slots Q (F0 m (pc + 3) ls (.ref (a 7) :: rest))) : W p l e R s m args below meth c H locs cells slots Q (F0 m pc ls (.ref (a 1) :: rest)) :=
  pb_get C hP i_Pn 1 rfl rfl 2 (by decide) m_36 rfl hdg kk
theorem pn_g_was {a ra : Nat → Nat} {n fs op : Nat} {tn : Int32} {mn sz : Nat} {fd pg en bl pl wa : Nat → Nat} {M : Nat → Nat → Nat} (C : pb_C D k R_Pn cc nL fr lo p R s m args c) (hP : va_P D pb_cl (bk_W a ra k n fs op tn mn sz fd pg en bl pl wa M) H) (hdg : decode cc pc = .ok (.getfield 18, 3)) (kk : W p l e R s m args below meth c H locs cells slots Q (F0 m (pc + 3) ls (.ref (a 8) :: rest))) : W p l e R s m args below meth c H locs cells slots Q (F0 m pc ls (.ref (a 1) :: rest)) :=
  pb_get C hP i_Pn 1 rfl rfl 3 (by decide) m_37 rfl hdg kk
theorem pn_g_size {a ra : Nat → Nat} {n fs op : Nat} {tn : Int32} {mn sz : Nat} {fd pg en bl pl wa : Nat → Nat} {M : Nat → Nat → Nat} (C : pb_C D k R_Pn cc nL fr lo p R s m args c) (hP : va_P D pb_cl (bk_W a ra k n fs op tn mn sz fd pg en bl pl wa M) H) (hdg : decode cc pc = .ok (.getfield 26, 3)) (kk : W p l e R s m args below meth c H locs cells slots Q (F0 m (pc + 3) ls (.int (nI sz) :: rest))) : W p l e R s m args below meth c H locs cells slots Q (F0 m pc ls (.ref (a 1) :: rest)) :=
  pb_get C hP i_Pn 1 rfl rfl 4 (by decide) m_38 rfl hdg kk
theorem pn_p_size {a ra : Nat → Nat} {n fs op : Nat} {tn : Int32} {mn sz : Nat} {fd pg en bl pl wa : Nat → Nat} {M : Nat → Nat → Nat} {v : Nat} (C : pb_C D k R_Pn cc nL fr lo p R s m args c) (hw : pb_W D A H0 (bk_W a ra k n fs op tn mn sz fd pg en bl pl wa M) H locs) (hdg : decode cc pc = .ok (.putfield 26, 3)) (kk : ∀ (H : Heap) (locs : List Loc), pb_W D A H0 (bk_W a ra k n fs op tn mn v fd pg en bl pl wa M) H locs → W p l e R s m args below meth c H locs cells slots Q (F0 m (pc + 3) ls rest)) : W p l e R s m args below meth c H locs cells slots Q (F0 m pc ls (.int (nI v) :: .ref (a 1) :: rest)) :=
  pb_put (ty := .int) C hw i_Pn t_Pn t_Pn_ok n_Pn 1 rfl rfl 4 (by decide) m_38 rfl (by decide +kernel) rfl rfl (Nat.le_of_ble_eq_true rfl) rfl hdg kk
theorem md_g_blocks {a : Nat → Nat} {n op tn mn th fl wr : Nat} {st bl fd wh bf : Nat → Nat} (C : pb_C D k R_Md cc nL fr lo p R s m args c) (hP : va_P D pb_cl (md_W a k n op tn mn th fl wr st bl fd wh bf) H) (hdg : decode cc pc = .ok (.getfield 25, 3)) (kk : W p l e R s m args below meth c H locs cells slots Q (F0 m (pc + 3) ls (.int (nI n) :: rest))) : W p l e R s m args below meth c H locs cells slots Q (F0 m pc ls (.ref (a 0) :: rest)) :=
  pb_get C hP i_Md 0 rfl rfl 0 (by decide) m_300 rfl hdg kk
theorem md_g_store {a : Nat → Nat} {n op tn mn th fl wr : Nat} {st bl fd wh bf : Nat → Nat} (C : pb_C D k R_Md cc nL fr lo p R s m args c) (hP : va_P D pb_cl (md_W a k n op tn mn th fl wr st bl fd wh bf) H) (hdg : decode cc pc = .ok (.getfield 7, 3)) (kk : W p l e R s m args below meth c H locs cells slots Q (F0 m (pc + 3) ls (.ref (a 1) :: rest))) : W p l e R s m args below meth c H locs cells slots Q (F0 m pc ls (.ref (a 0) :: rest)) :=
  pb_get C hP i_Md 0 rfl rfl 1 (by decide) m_301 rfl hdg kk
theorem md_g_open {a : Nat → Nat} {n op tn mn th fl wr : Nat} {st bl fd wh bf : Nat → Nat} (C : pb_C D k R_Md cc nL fr lo p R s m args c) (hP : va_P D pb_cl (md_W a k n op tn mn th fl wr st bl fd wh bf) H) (hdg : decode cc pc = .ok (.getfield 32, 3)) (kk : W p l e R s m args below meth c H locs cells slots Q (F0 m (pc + 3) ls (.int (nI op) :: rest))) : W p l e R s m args below meth c H locs cells slots Q (F0 m pc ls (.ref (a 0) :: rest)) :=
  pb_get C hP i_Md 0 rfl rfl 2 (by decide) m_302 rfl hdg kk
theorem md_p_open {a : Nat → Nat} {n op tn mn th fl wr : Nat} {st bl fd wh bf : Nat → Nat} {v : Nat} (C : pb_C D k R_Md cc nL fr lo p R s m args c) (hw : pb_W D A H0 (md_W a k n op tn mn th fl wr st bl fd wh bf) H locs) (hv : v ≤ 1) (hdg : decode cc pc = .ok (.putfield 32, 3)) (kk : ∀ (H : Heap) (locs : List Loc), pb_W D A H0 (md_W a k n v tn mn th fl wr st bl fd wh bf) H locs → W p l e R s m args below meth c H locs cells slots Q (F0 m (pc + 3) ls rest)) : W p l e R s m args below meth c H locs cells slots Q (F0 m pc ls (.int (nI v) :: .ref (a 0) :: rest)) :=
  pb_put (ty := .boolean) C hw i_Md t_Md t_Md_ok n_Md 0 rfl rfl 2 (by decide) m_302 rfl (by decide +kernel) (by rcases (show v = 0 ∨ v = 1 by omega) with rfl | rfl <;> rfl) (by rcases (show v = 0 ∨ v = 1 by omega) with rfl | rfl <;> decide +kernel) (Nat.le_of_ble_eq_true rfl) rfl hdg kk
theorem md_g_turn {a : Nat → Nat} {n op tn mn th fl wr : Nat} {st bl fd wh bf : Nat → Nat} (C : pb_C D k R_Md cc nL fr lo p R s m args c) (hP : va_P D pb_cl (md_W a k n op tn mn th fl wr st bl fd wh bf) H) (hdg : decode cc pc = .ok (.getfield 29, 3)) (kk : W p l e R s m args below meth c H locs cells slots Q (F0 m (pc + 3) ls (.int (nI tn) :: rest))) : W p l e R s m args below meth c H locs cells slots Q (F0 m pc ls (.ref (a 0) :: rest)) :=
  pb_get C hP i_Md 0 rfl rfl 3 (by decide) m_303 rfl hdg kk
theorem md_p_turn {a : Nat → Nat} {n op tn mn th fl wr : Nat} {st bl fd wh bf : Nat → Nat} {v : Nat} (C : pb_C D k R_Md cc nL fr lo p R s m args c) (hw : pb_W D A H0 (md_W a k n op tn mn th fl wr st bl fd wh bf) H locs) (hdg : decode cc pc = .ok (.putfield 29, 3)) (kk : ∀ (H : Heap) (locs : List Loc), pb_W D A H0 (md_W a k n op v mn th fl wr st bl fd wh bf) H locs → W p l e R s m args below meth c H locs cells slots Q (F0 m (pc + 3) ls rest)) : W p l e R s m args below meth c H locs cells slots Q (F0 m pc ls (.int (nI v) :: .ref (a 0) :: rest)) :=
  pb_put (ty := .int) C hw i_Md t_Md t_Md_ok n_Md 0 rfl rfl 3 (by decide) m_303 rfl (by decide +kernel) rfl rfl (Nat.le_of_ble_eq_true rfl) rfl hdg kk
theorem md_g_entries {a : Nat → Nat} {n op tn mn th fl wr : Nat} {st bl fd wh bf : Nat → Nat} (C : pb_C D k R_Md cc nL fr lo p R s m args c) (hP : va_P D pb_cl (md_W a k n op tn mn th fl wr st bl fd wh bf) H) (hdg : decode cc pc = .ok (.getfield 54, 3)) (kk : W p l e R s m args below meth c H locs cells slots Q (F0 m (pc + 3) ls (.int (nI mn) :: rest))) : W p l e R s m args below meth c H locs cells slots Q (F0 m pc ls (.ref (a 0) :: rest)) :=
  pb_get C hP i_Md 0 rfl rfl 4 (by decide) m_304 rfl hdg kk
theorem md_p_entries {a : Nat → Nat} {n op tn mn th fl wr : Nat} {st bl fd wh bf : Nat → Nat} {v : Nat} (C : pb_C D k R_Md cc nL fr lo p R s m args c) (hw : pb_W D A H0 (md_W a k n op tn mn th fl wr st bl fd wh bf) H locs) (hdg : decode cc pc = .ok (.putfield 54, 3)) (kk : ∀ (H : Heap) (locs : List Loc), pb_W D A H0 (md_W a k n op tn v th fl wr st bl fd wh bf) H locs → W p l e R s m args below meth c H locs cells slots Q (F0 m (pc + 3) ls rest)) : W p l e R s m args below meth c H locs cells slots Q (F0 m pc ls (.int (nI v) :: .ref (a 0) :: rest)) :=
  pb_put (ty := .int) C hw i_Md t_Md t_Md_ok n_Md 0 rfl rfl 4 (by decide) m_304 rfl (by decide +kernel) rfl rfl (Nat.le_of_ble_eq_true rfl) rfl hdg kk
theorem md_g_thrown {a : Nat → Nat} {n op tn mn th fl wr : Nat} {st bl fd wh bf : Nat → Nat} (C : pb_C D k R_Md cc nL fr lo p R s m args c) (hP : va_P D pb_cl (md_W a k n op tn mn th fl wr st bl fd wh bf) H) (hdg : decode cc pc = .ok (.getfield 46, 3)) (kk : W p l e R s m args below meth c H locs cells slots Q (F0 m (pc + 3) ls (.int (nI th) :: rest))) : W p l e R s m args below meth c H locs cells slots Q (F0 m pc ls (.ref (a 0) :: rest)) :=
  pb_get C hP i_Md 0 rfl rfl 5 (by decide) m_305 rfl hdg kk
theorem md_p_thrown {a : Nat → Nat} {n op tn mn th fl wr : Nat} {st bl fd wh bf : Nat → Nat} {v : Nat} (C : pb_C D k R_Md cc nL fr lo p R s m args c) (hw : pb_W D A H0 (md_W a k n op tn mn th fl wr st bl fd wh bf) H locs) (hdg : decode cc pc = .ok (.putfield 46, 3)) (kk : ∀ (H : Heap) (locs : List Loc), pb_W D A H0 (md_W a k n op tn mn v fl wr st bl fd wh bf) H locs → W p l e R s m args below meth c H locs cells slots Q (F0 m (pc + 3) ls rest)) : W p l e R s m args below meth c H locs cells slots Q (F0 m pc ls (.int (nI v) :: .ref (a 0) :: rest)) :=
  pb_put (ty := .int) C hw i_Md t_Md t_Md_ok n_Md 0 rfl rfl 5 (by decide) m_305 rfl (by decide +kernel) rfl rfl (Nat.le_of_ble_eq_true rfl) rfl hdg kk
theorem md_g_block {a : Nat → Nat} {n op tn mn th fl wr : Nat} {st bl fd wh bf : Nat → Nat} (C : pb_C D k R_Md cc nL fr lo p R s m args c) (hP : va_P D pb_cl (md_W a k n op tn mn th fl wr st bl fd wh bf) H) (hdg : decode cc pc = .ok (.getfield 13, 3)) (kk : W p l e R s m args below meth c H locs cells slots Q (F0 m (pc + 3) ls (.ref (a 2) :: rest))) : W p l e R s m args below meth c H locs cells slots Q (F0 m pc ls (.ref (a 0) :: rest)) :=
  pb_get C hP i_Md 0 rfl rfl 6 (by decide) m_306 rfl hdg kk
theorem md_g_fed {a : Nat → Nat} {n op tn mn th fl wr : Nat} {st bl fd wh bf : Nat → Nat} (C : pb_C D k R_Md cc nL fr lo p R s m args c) (hP : va_P D pb_cl (md_W a k n op tn mn th fl wr st bl fd wh bf) H) (hdg : decode cc pc = .ok (.getfield 16, 3)) (kk : W p l e R s m args below meth c H locs cells slots Q (F0 m (pc + 3) ls (.ref (a 3) :: rest))) : W p l e R s m args below meth c H locs cells slots Q (F0 m pc ls (.ref (a 0) :: rest)) :=
  pb_get C hP i_Md 0 rfl rfl 7 (by decide) m_307 rfl hdg kk
theorem md_g_fedLong {a : Nat → Nat} {n op tn mn th fl wr : Nat} {st bl fd wh bf : Nat → Nat} (C : pb_C D k R_Md cc nL fr lo p R s m args c) (hP : va_P D pb_cl (md_W a k n op tn mn th fl wr st bl fd wh bf) H) (hdg : decode cc pc = .ok (.getfield 61, 3)) (kk : W p l e R s m args below meth c H locs cells slots Q (F0 m (pc + 3) ls (.int (nI fl) :: rest))) : W p l e R s m args below meth c H locs cells slots Q (F0 m pc ls (.ref (a 0) :: rest)) :=
  pb_get C hP i_Md 0 rfl rfl 8 (by decide) m_308 rfl hdg kk
theorem md_p_fedLong {a : Nat → Nat} {n op tn mn th fl wr : Nat} {st bl fd wh bf : Nat → Nat} {v : Nat} (C : pb_C D k R_Md cc nL fr lo p R s m args c) (hw : pb_W D A H0 (md_W a k n op tn mn th fl wr st bl fd wh bf) H locs) (hdg : decode cc pc = .ok (.putfield 61, 3)) (kk : ∀ (H : Heap) (locs : List Loc), pb_W D A H0 (md_W a k n op tn mn th v wr st bl fd wh bf) H locs → W p l e R s m args below meth c H locs cells slots Q (F0 m (pc + 3) ls rest)) : W p l e R s m args below meth c H locs cells slots Q (F0 m pc ls (.int (nI v) :: .ref (a 0) :: rest)) :=
  pb_put (ty := .int) C hw i_Md t_Md t_Md_ok n_Md 0 rfl rfl 8 (by decide) m_308 rfl (by decide +kernel) rfl rfl (Nat.le_of_ble_eq_true rfl) rfl hdg kk
theorem md_g_where {a : Nat → Nat} {n op tn mn th fl wr : Nat} {st bl fd wh bf : Nat → Nat} (C : pb_C D k R_Md cc nL fr lo p R s m args c) (hP : va_P D pb_cl (md_W a k n op tn mn th fl wr st bl fd wh bf) H) (hdg : decode cc pc = .ok (.getfield 19, 3)) (kk : W p l e R s m args below meth c H locs cells slots Q (F0 m (pc + 3) ls (.ref (a 4) :: rest))) : W p l e R s m args below meth c H locs cells slots Q (F0 m pc ls (.ref (a 0) :: rest)) :=
  pb_get C hP i_Md 0 rfl rfl 9 (by decide) m_309 rfl hdg kk
theorem md_g_before {a : Nat → Nat} {n op tn mn th fl wr : Nat} {st bl fd wh bf : Nat → Nat} (C : pb_C D k R_Md cc nL fr lo p R s m args c) (hP : va_P D pb_cl (md_W a k n op tn mn th fl wr st bl fd wh bf) H) (hdg : decode cc pc = .ok (.getfield 22, 3)) (kk : W p l e R s m args below meth c H locs cells slots Q (F0 m (pc + 3) ls (.ref (a 5) :: rest))) : W p l e R s m args below meth c H locs cells slots Q (F0 m pc ls (.ref (a 0) :: rest)) :=
  pb_get C hP i_Md 0 rfl rfl 10 (by decide) m_310 rfl hdg kk
theorem md_g_written {a : Nat → Nat} {n op tn mn th fl wr : Nat} {st bl fd wh bf : Nat → Nat} (C : pb_C D k R_Md cc nL fr lo p R s m args c) (hP : va_P D pb_cl (md_W a k n op tn mn th fl wr st bl fd wh bf) H) (hdg : decode cc pc = .ok (.getfield 43, 3)) (kk : W p l e R s m args below meth c H locs cells slots Q (F0 m (pc + 3) ls (.int (nI wr) :: rest))) : W p l e R s m args below meth c H locs cells slots Q (F0 m pc ls (.ref (a 0) :: rest)) :=
  pb_get C hP i_Md 0 rfl rfl 11 (by decide) m_311 rfl hdg kk
theorem md_p_written {a : Nat → Nat} {n op tn mn th fl wr : Nat} {st bl fd wh bf : Nat → Nat} {v : Nat} (C : pb_C D k R_Md cc nL fr lo p R s m args c) (hw : pb_W D A H0 (md_W a k n op tn mn th fl wr st bl fd wh bf) H locs) (hdg : decode cc pc = .ok (.putfield 43, 3)) (kk : ∀ (H : Heap) (locs : List Loc), pb_W D A H0 (md_W a k n op tn mn th fl v st bl fd wh bf) H locs → W p l e R s m args below meth c H locs cells slots Q (F0 m (pc + 3) ls rest)) : W p l e R s m args below meth c H locs cells slots Q (F0 m pc ls (.int (nI v) :: .ref (a 0) :: rest)) :=
  pb_put (ty := .int) C hw i_Md t_Md t_Md_ok n_Md 0 rfl rfl 11 (by decide) m_311 rfl (by decide +kernel) rfl rfl (Nat.le_of_ble_eq_true rfl) rfl hdg kk
theorem bk_g_size {a ra : Nat → Nat} {n fs op : Nat} {tn : Int32} {mn sz : Nat} {fd pg en bl pl wa : Nat → Nat} {M : Nat → Nat → Nat} (C : pb_C D k R_Bk cc nL fr lo p R s m args c) (hP : va_P D pb_cl (bk_W a ra k n fs op tn mn sz fd pg en bl pl wa M) H) (hdg : decode cc pc = .ok (.getfield 107, 3)) (kk : W p l e R s m args below meth c H locs cells slots Q (F0 m (pc + 3) ls (.int (nI sz) :: rest))) : W p l e R s m args below meth c H locs cells slots Q (F0 m pc ls (.ref (a 1) :: rest)) :=
  va_getN (host := "PuzzleBook") (ref := "PuzzleBook$Pen") C.1 C.2.1 C.2.2.2.2.1 i_Pn C.2.2.2.1 C.2.2.2.2.2.1.1 hP 1 rfl rfl 4 (by decide) (va_Nw.use rfl C.2.2.2.2.2.1.2.1) (fun _ h => h) rfl hdg kk
theorem bk_p_size {a ra : Nat → Nat} {n fs op : Nat} {tn : Int32} {mn sz : Nat} {fd pg en bl pl wa : Nat → Nat} {M : Nat → Nat → Nat} {v : Nat} (C : pb_C D k R_Bk cc nL fr lo p R s m args c) (hw : pb_W D A H0 (bk_W a ra k n fs op tn mn sz fd pg en bl pl wa M) H locs) (hdg : decode cc pc = .ok (.putfield 107, 3)) (kk : ∀ (H : Heap) (locs : List Loc), pb_W D A H0 (bk_W a ra k n fs op tn mn v fd pg en bl pl wa M) H locs → W p l e R s m args below meth c H locs cells slots Q (F0 m (pc + 3) ls rest)) : W p l e R s m args below meth c H locs cells slots Q (F0 m pc ls (.int (nI v) :: .ref (a 1) :: rest)) :=
  va_putN (host := "PuzzleBook") (ref := "PuzzleBook$Pen") (ty := .int) C.1 C.2.1 C.2.2.2.2.1 i_Pn t_Pn t_Pn_ok n_Pn C.2.2.2.1 C.2.2.2.2.2.1.1 hw.1 hw.2.1 hw.2.2 1 rfl rfl 4 (by decide) (va_Nw.use rfl C.2.2.2.2.2.1.2.1) (fun _ h => h) rfl (by decide +kernel) rfl rfl (Nat.le_of_ble_eq_true rfl) hdg (fun H1 locs1 h1 h2 h3 => kk H1 locs1 ⟨h1, h2, h3⟩)
theorem bk_l_fed {a ra : Nat → Nat} {n fs op : Nat} {tn : Int32} {mn sz : Nat} {fd pg en bl pl wa : Nat → Nat} {M : Nat → Nat → Nat} {i : Nat} (C : pb_C D k own cc nL fr lo p R s m args c) (hP : va_P D pb_cl (bk_W a ra k n fs op tn mn sz fd pg en bl pl wa M) H) (hi : i < 48) (hdg : decode cc pc = .ok (.baload, 1)) (kk : W p l e R s m args below meth c H locs cells slots Q (F0 m (pc + 1) ls (.int (sb_b (fd i)) :: rest))) : W p l e R s m args below meth c H locs cells slots Q (F0 m pc ls (.int (nI i) :: .ref (a 3) :: rest)) :=
  pb_bld C hP 3 rfl hi (by decide) hdg kk
theorem bk_s_fed {a ra : Nat → Nat} {n fs op : Nat} {tn : Int32} {mn sz : Nat} {fd pg en bl pl wa : Nat → Nat} {M : Nat → Nat → Nat} {i v : Nat} {x : Int32} (C : pb_C D k own cc nL fr lo p R s m args c) (hw : pb_W D A H0 (bk_W a ra k n fs op tn mn sz fd pg en bl pl wa M) H locs) (hi : i < 48) (hx : x.toInt8.toInt32 = sb_b v) (hdg : decode cc pc = .ok (.bastore, 1)) (kk : ∀ (H : Heap) (locs : List Loc), pb_W D A H0 (bk_W a ra k n fs op tn mn sz (va_up fd i v) pg en bl pl wa M) H locs → W p l e R s m args below meth c H locs cells slots Q (F0 m (pc + 1) ls rest)) : W p l e R s m args below meth c H locs cells slots Q (F0 m pc ls (.int x :: .int (nI i) :: .ref (a 3) :: rest)) :=
  pb_bst C hw 3 rfl hi (by decide) hx rfl hdg kk
theorem bk_l_page {a ra : Nat → Nat} {n fs op : Nat} {tn : Int32} {mn sz : Nat} {fd pg en bl pl wa : Nat → Nat} {M : Nat → Nat → Nat} {i : Nat} (C : pb_C D k own cc nL fr lo p R s m args c) (hP : va_P D pb_cl (bk_W a ra k n fs op tn mn sz fd pg en bl pl wa M) H) (hi : i < 64) (hdg : decode cc pc = .ok (.baload, 1)) (kk : W p l e R s m args below meth c H locs cells slots Q (F0 m (pc + 1) ls (.int (sb_b (pg i)) :: rest))) : W p l e R s m args below meth c H locs cells slots Q (F0 m pc ls (.int (nI i) :: .ref (a 4) :: rest)) :=
  pb_bld C hP 4 rfl hi (by decide) hdg kk
theorem bk_s_page {a ra : Nat → Nat} {n fs op : Nat} {tn : Int32} {mn sz : Nat} {fd pg en bl pl wa : Nat → Nat} {M : Nat → Nat → Nat} {i v : Nat} {x : Int32} (C : pb_C D k own cc nL fr lo p R s m args c) (hw : pb_W D A H0 (bk_W a ra k n fs op tn mn sz fd pg en bl pl wa M) H locs) (hi : i < 64) (hx : x.toInt8.toInt32 = sb_b v) (hdg : decode cc pc = .ok (.bastore, 1)) (kk : ∀ (H : Heap) (locs : List Loc), pb_W D A H0 (bk_W a ra k n fs op tn mn sz fd (va_up pg i v) en bl pl wa M) H locs → W p l e R s m args below meth c H locs cells slots Q (F0 m (pc + 1) ls rest)) : W p l e R s m args below meth c H locs cells slots Q (F0 m pc ls (.int x :: .int (nI i) :: .ref (a 4) :: rest)) :=
  pb_bst C hw 4 rfl hi (by decide) hx rfl hdg kk
theorem bk_l_entries {a ra : Nat → Nat} {n fs op : Nat} {tn : Int32} {mn sz : Nat} {fd pg en bl pl wa : Nat → Nat} {M : Nat → Nat → Nat} {i : Nat} (C : pb_C D k own cc nL fr lo p R s m args c) (hP : va_P D pb_cl (bk_W a ra k n fs op tn mn sz fd pg en bl pl wa M) H) (hi : i < 40) (hdg : decode cc pc = .ok (.iaload, 1)) (kk : W p l e R s m args below meth c H locs cells slots Q (F0 m (pc + 1) ls (.int (nI (en i)) :: rest))) : W p l e R s m args below meth c H locs cells slots Q (F0 m pc ls (.int (nI i) :: .ref (a 5) :: rest)) :=
  pb_ild C hP 5 rfl hi (by decide) hdg kk
theorem bk_s_entries {a ra : Nat → Nat} {n fs op : Nat} {tn : Int32} {mn sz : Nat} {fd pg en bl pl wa : Nat → Nat} {M : Nat → Nat → Nat} {i v : Nat} (C : pb_C D k own cc nL fr lo p R s m args c) (hw : pb_W D A H0 (bk_W a ra k n fs op tn mn sz fd pg en bl pl wa M) H locs) (hi : i < 40) (hdg : decode cc pc = .ok (.iastore, 1)) (kk : ∀ (H : Heap) (locs : List Loc), pb_W D A H0 (bk_W a ra k n fs op tn mn sz fd pg (va_up en i v) bl pl wa M) H locs → W p l e R s m args below meth c H locs cells slots Q (F0 m (pc + 1) ls rest)) : W p l e R s m args below meth c H locs cells slots Q (F0 m pc ls (.int (nI v) :: .int (nI i) :: .ref (a 5) :: rest)) :=
  pb_ist C hw 5 rfl hi (by decide) rfl hdg kk
theorem bk_l_blocks {a ra : Nat → Nat} {n fs op : Nat} {tn : Int32} {mn sz : Nat} {fd pg en bl pl wa : Nat → Nat} {M : Nat → Nat → Nat} {i : Nat} (C : pb_C D k own cc nL fr lo p R s m args c) (hP : va_P D pb_cl (bk_W a ra k n fs op tn mn sz fd pg en bl pl wa M) H) (hi : i < 129) (hdg : decode cc pc = .ok (.iaload, 1)) (kk : W p l e R s m args below meth c H locs cells slots Q (F0 m (pc + 1) ls (.int (nI (bl i)) :: rest))) : W p l e R s m args below meth c H locs cells slots Q (F0 m pc ls (.int (nI i) :: .ref (a 6) :: rest)) :=
  pb_ild C hP 6 rfl hi (by decide) hdg kk
theorem bk_s_blocks {a ra : Nat → Nat} {n fs op : Nat} {tn : Int32} {mn sz : Nat} {fd pg en bl pl wa : Nat → Nat} {M : Nat → Nat → Nat} {i v : Nat} (C : pb_C D k own cc nL fr lo p R s m args c) (hw : pb_W D A H0 (bk_W a ra k n fs op tn mn sz fd pg en bl pl wa M) H locs) (hi : i < 129) (hdg : decode cc pc = .ok (.iastore, 1)) (kk : ∀ (H : Heap) (locs : List Loc), pb_W D A H0 (bk_W a ra k n fs op tn mn sz fd pg en (va_up bl i v) pl wa M) H locs → W p l e R s m args below meth c H locs cells slots Q (F0 m (pc + 1) ls rest)) : W p l e R s m args below meth c H locs cells slots Q (F0 m pc ls (.int (nI v) :: .int (nI i) :: .ref (a 6) :: rest)) :=
  pb_ist C hw 6 rfl hi (by decide) rfl hdg kk
theorem bk_l_places {a ra : Nat → Nat} {n fs op : Nat} {tn : Int32} {mn sz : Nat} {fd pg en bl pl wa : Nat → Nat} {M : Nat → Nat → Nat} {i : Nat} (C : pb_C D k own cc nL fr lo p R s m args c) (hP : va_P D pb_cl (bk_W a ra k n fs op tn mn sz fd pg en bl pl wa M) H) (hi : i < 129) (hdg : decode cc pc = .ok (.iaload, 1)) (kk : W p l e R s m args below meth c H locs cells slots Q (F0 m (pc + 1) ls (.int (nI (pl i)) :: rest))) : W p l e R s m args below meth c H locs cells slots Q (F0 m pc ls (.int (nI i) :: .ref (a 7) :: rest)) :=
  pb_ild C hP 7 rfl hi (by decide) hdg kk
theorem bk_s_places {a ra : Nat → Nat} {n fs op : Nat} {tn : Int32} {mn sz : Nat} {fd pg en bl pl wa : Nat → Nat} {M : Nat → Nat → Nat} {i v : Nat} (C : pb_C D k own cc nL fr lo p R s m args c) (hw : pb_W D A H0 (bk_W a ra k n fs op tn mn sz fd pg en bl pl wa M) H locs) (hi : i < 129) (hdg : decode cc pc = .ok (.iastore, 1)) (kk : ∀ (H : Heap) (locs : List Loc), pb_W D A H0 (bk_W a ra k n fs op tn mn sz fd pg en bl (va_up pl i v) wa M) H locs → W p l e R s m args below meth c H locs cells slots Q (F0 m (pc + 1) ls rest)) : W p l e R s m args below meth c H locs cells slots Q (F0 m pc ls (.int (nI v) :: .int (nI i) :: .ref (a 7) :: rest)) :=
  pb_ist C hw 7 rfl hi (by decide) rfl hdg kk
theorem bk_l_was {a ra : Nat → Nat} {n fs op : Nat} {tn : Int32} {mn sz : Nat} {fd pg en bl pl wa : Nat → Nat} {M : Nat → Nat → Nat} {i : Nat} (C : pb_C D k own cc nL fr lo p R s m args c) (hP : va_P D pb_cl (bk_W a ra k n fs op tn mn sz fd pg en bl pl wa M) H) (hi : i < 129) (hdg : decode cc pc = .ok (.baload, 1)) (kk : W p l e R s m args below meth c H locs cells slots Q (F0 m (pc + 1) ls (.int (sb_b (wa i)) :: rest))) : W p l e R s m args below meth c H locs cells slots Q (F0 m pc ls (.int (nI i) :: .ref (a 8) :: rest)) :=
  pb_bld C hP 8 rfl hi (by decide) hdg kk
theorem bk_s_was {a ra : Nat → Nat} {n fs op : Nat} {tn : Int32} {mn sz : Nat} {fd pg en bl pl wa : Nat → Nat} {M : Nat → Nat → Nat} {i v : Nat} {x : Int32} (C : pb_C D k own cc nL fr lo p R s m args c) (hw : pb_W D A H0 (bk_W a ra k n fs op tn mn sz fd pg en bl pl wa M) H locs) (hi : i < 129) (hx : x.toInt8.toInt32 = sb_b v) (hdg : decode cc pc = .ok (.bastore, 1)) (kk : ∀ (H : Heap) (locs : List Loc), pb_W D A H0 (bk_W a ra k n fs op tn mn sz fd pg en bl pl (va_up wa i v) M) H locs → W p l e R s m args below meth c H locs cells slots Q (F0 m (pc + 1) ls rest)) : W p l e R s m args below meth c H locs cells slots Q (F0 m pc ls (.int x :: .int (nI i) :: .ref (a 8) :: rest)) :=
  pb_bst C hw 8 rfl hi (by decide) hx rfl hdg kk
theorem md_l_store {a : Nat → Nat} {n op tn mn th fl wr : Nat} {st bl fd wh bf : Nat → Nat} {i : Nat} (C : pb_C D k own cc nL fr lo p R s m args c) (hP : va_P D pb_cl (md_W a k n op tn mn th fl wr st bl fd wh bf) H) (hi : i < 4096) (hdg : decode cc pc = .ok (.iaload, 1)) (kk : W p l e R s m args below meth c H locs cells slots Q (F0 m (pc + 1) ls (.int (nI (st i)) :: rest))) : W p l e R s m args below meth c H locs cells slots Q (F0 m pc ls (.int (nI i) :: .ref (a 1) :: rest)) :=
  pb_ild C hP 1 rfl hi (by decide) hdg kk
theorem md_s_store {a : Nat → Nat} {n op tn mn th fl wr : Nat} {st bl fd wh bf : Nat → Nat} {i v : Nat} (C : pb_C D k own cc nL fr lo p R s m args c) (hw : pb_W D A H0 (md_W a k n op tn mn th fl wr st bl fd wh bf) H locs) (hi : i < 4096) (hdg : decode cc pc = .ok (.iastore, 1)) (kk : ∀ (H : Heap) (locs : List Loc), pb_W D A H0 (md_W a k n op tn mn th fl wr (va_up st i v) bl fd wh bf) H locs → W p l e R s m args below meth c H locs cells slots Q (F0 m (pc + 1) ls rest)) : W p l e R s m args below meth c H locs cells slots Q (F0 m pc ls (.int (nI v) :: .int (nI i) :: .ref (a 1) :: rest)) :=
  pb_ist C hw 1 rfl hi (by decide) rfl hdg kk
theorem md_l_block {a : Nat → Nat} {n op tn mn th fl wr : Nat} {st bl fd wh bf : Nat → Nat} {i : Nat} (C : pb_C D k own cc nL fr lo p R s m args c) (hP : va_P D pb_cl (md_W a k n op tn mn th fl wr st bl fd wh bf) H) (hi : i < 40) (hdg : decode cc pc = .ok (.iaload, 1)) (kk : W p l e R s m args below meth c H locs cells slots Q (F0 m (pc + 1) ls (.int (nI (bl i)) :: rest))) : W p l e R s m args below meth c H locs cells slots Q (F0 m pc ls (.int (nI i) :: .ref (a 2) :: rest)) :=
  pb_ild C hP 2 rfl hi (by decide) hdg kk
theorem md_s_block {a : Nat → Nat} {n op tn mn th fl wr : Nat} {st bl fd wh bf : Nat → Nat} {i v : Nat} (C : pb_C D k own cc nL fr lo p R s m args c) (hw : pb_W D A H0 (md_W a k n op tn mn th fl wr st bl fd wh bf) H locs) (hi : i < 40) (hdg : decode cc pc = .ok (.iastore, 1)) (kk : ∀ (H : Heap) (locs : List Loc), pb_W D A H0 (md_W a k n op tn mn th fl wr st (va_up bl i v) fd wh bf) H locs → W p l e R s m args below meth c H locs cells slots Q (F0 m (pc + 1) ls rest)) : W p l e R s m args below meth c H locs cells slots Q (F0 m pc ls (.int (nI v) :: .int (nI i) :: .ref (a 2) :: rest)) :=
  pb_ist C hw 2 rfl hi (by decide) rfl hdg kk
theorem md_l_fed {a : Nat → Nat} {n op tn mn th fl wr : Nat} {st bl fd wh bf : Nat → Nat} {i : Nat} (C : pb_C D k own cc nL fr lo p R s m args c) (hP : va_P D pb_cl (md_W a k n op tn mn th fl wr st bl fd wh bf) H) (hi : i < 48) (hdg : decode cc pc = .ok (.iaload, 1)) (kk : W p l e R s m args below meth c H locs cells slots Q (F0 m (pc + 1) ls (.int (nI (fd i)) :: rest))) : W p l e R s m args below meth c H locs cells slots Q (F0 m pc ls (.int (nI i) :: .ref (a 3) :: rest)) :=
  pb_ild C hP 3 rfl hi (by decide) hdg kk
theorem md_s_fed {a : Nat → Nat} {n op tn mn th fl wr : Nat} {st bl fd wh bf : Nat → Nat} {i v : Nat} (C : pb_C D k own cc nL fr lo p R s m args c) (hw : pb_W D A H0 (md_W a k n op tn mn th fl wr st bl fd wh bf) H locs) (hi : i < 48) (hdg : decode cc pc = .ok (.iastore, 1)) (kk : ∀ (H : Heap) (locs : List Loc), pb_W D A H0 (md_W a k n op tn mn th fl wr st bl (va_up fd i v) wh bf) H locs → W p l e R s m args below meth c H locs cells slots Q (F0 m (pc + 1) ls rest)) : W p l e R s m args below meth c H locs cells slots Q (F0 m pc ls (.int (nI v) :: .int (nI i) :: .ref (a 3) :: rest)) :=
  pb_ist C hw 3 rfl hi (by decide) rfl hdg kk
theorem md_l_where {a : Nat → Nat} {n op tn mn th fl wr : Nat} {st bl fd wh bf : Nat → Nat} {i : Nat} (C : pb_C D k own cc nL fr lo p R s m args c) (hP : va_P D pb_cl (md_W a k n op tn mn th fl wr st bl fd wh bf) H) (hi : i < 129) (hdg : decode cc pc = .ok (.iaload, 1)) (kk : W p l e R s m args below meth c H locs cells slots Q (F0 m (pc + 1) ls (.int (nI (wh i)) :: rest))) : W p l e R s m args below meth c H locs cells slots Q (F0 m pc ls (.int (nI i) :: .ref (a 4) :: rest)) :=
  pb_ild C hP 4 rfl hi (by decide) hdg kk
theorem md_s_where {a : Nat → Nat} {n op tn mn th fl wr : Nat} {st bl fd wh bf : Nat → Nat} {i v : Nat} (C : pb_C D k own cc nL fr lo p R s m args c) (hw : pb_W D A H0 (md_W a k n op tn mn th fl wr st bl fd wh bf) H locs) (hi : i < 129) (hdg : decode cc pc = .ok (.iastore, 1)) (kk : ∀ (H : Heap) (locs : List Loc), pb_W D A H0 (md_W a k n op tn mn th fl wr st bl fd (va_up wh i v) bf) H locs → W p l e R s m args below meth c H locs cells slots Q (F0 m (pc + 1) ls rest)) : W p l e R s m args below meth c H locs cells slots Q (F0 m pc ls (.int (nI v) :: .int (nI i) :: .ref (a 4) :: rest)) :=
  pb_ist C hw 4 rfl hi (by decide) rfl hdg kk
theorem md_l_before {a : Nat → Nat} {n op tn mn th fl wr : Nat} {st bl fd wh bf : Nat → Nat} {i : Nat} (C : pb_C D k own cc nL fr lo p R s m args c) (hP : va_P D pb_cl (md_W a k n op tn mn th fl wr st bl fd wh bf) H) (hi : i < 129) (hdg : decode cc pc = .ok (.iaload, 1)) (kk : W p l e R s m args below meth c H locs cells slots Q (F0 m (pc + 1) ls (.int (nI (bf i)) :: rest))) : W p l e R s m args below meth c H locs cells slots Q (F0 m pc ls (.int (nI i) :: .ref (a 5) :: rest)) :=
  pb_ild C hP 5 rfl hi (by decide) hdg kk
theorem md_s_before {a : Nat → Nat} {n op tn mn th fl wr : Nat} {st bl fd wh bf : Nat → Nat} {i v : Nat} (C : pb_C D k own cc nL fr lo p R s m args c) (hw : pb_W D A H0 (md_W a k n op tn mn th fl wr st bl fd wh bf) H locs) (hi : i < 129) (hdg : decode cc pc = .ok (.iastore, 1)) (kk : ∀ (H : Heap) (locs : List Loc), pb_W D A H0 (md_W a k n op tn mn th fl wr st bl fd wh (va_up bf i v)) H locs → W p l e R s m args below meth c H locs cells slots Q (F0 m (pc + 1) ls rest)) : W p l e R s m args below meth c H locs cells slots Q (F0 m pc ls (.int (nI v) :: .int (nI i) :: .ref (a 5) :: rest)) :=
  pb_ist C hw 5 rfl hi (by decide) rfl hdg kk
theorem bk_row {a ra : Nat → Nat} {n fs op : Nat} {tn : Int32} {mn sz : Nat} {fd pg en bl pl wa : Nat → Nat} {M : Nat → Nat → Nat} {b : Nat} (C : pb_C D k own cc nL fr lo p R s m args c) (hP : va_P D pb_cl (bk_W a ra k n fs op tn mn sz fd pg en bl pl wa M) H) (hb : b < n) (hn : n ≤ 64) (hdg : decode cc pc = .ok (.aaload, 1)) (kk : W p l e R s m args below meth c H locs cells slots Q (F0 m (pc + 1) ls (.ref (ra b) :: rest))) : W p l e R s m args below meth c H locs cells slots Q (F0 m pc ls (.int (nI b) :: .ref (a 2) :: rest)) := by
  have hin : vp_in (nI b) n := vp_in_nI hb (by omega)
  have hlt : (nI b).toNatClampNeg < n := by rw [nI_clamp (by omega)]; exact hb
  refine W.aald (v := va_rf ((fun j => some (ra j)) (nI b).toNatClampNeg)) (ty := .array .byte) C.1 C.2.1 (hP 2 _ rfl) ((C.2.2.2.2.2.1.1.2 2 _ rfl).1 n (fun j => va_rf ((fun j => some (ra j)) j))) rfl (fun q => by cases q) (by show ¬ (nI b < 0 ∨ (arrV _ _ _).slots.size ≤ _); rw [arrV_size]; exact hin) (by show (arrV _ _ _).slots[_]? = _; rw [arrV_read _ _ hlt]) rfl rfl hdg ?_
  show W p l e R s m args below meth c H locs cells slots Q (F0 m (pc + 1) ls (.ref (ra (nI b).toNatClampNeg) :: rest))
  rw [nI_clamp (by omega)]
  exact kk
theorem bk_len {a ra : Nat → Nat} {n fs op : Nat} {tn : Int32} {mn sz : Nat} {fd pg en bl pl wa : Nat → Nat} {M : Nat → Nat → Nat} (C : pb_C D k own cc nL fr lo p R s m args c) (hP : va_P D pb_cl (bk_W a ra k n fs op tn mn sz fd pg en bl pl wa M) H) (hdg : decode cc pc = .ok (.arraylength, 1)) (kk : W p l e R s m args below meth c H locs cells slots Q (F0 m (pc + 1) ls (.int (nI n) :: rest))) : W p l e R s m args below meth c H locs cells slots Q (F0 m pc ls (.ref (a 2) :: rest)) :=
  va_alen C.1 C.2.1 C.2.2.2.2.2.1.1 hP 2 2 rfl rfl rfl hdg kk
theorem bk_rld {a ra : Nat → Nat} {n fs op : Nat} {tn : Int32} {mn sz : Nat} {fd pg en bl pl wa : Nat → Nat} {M : Nat → Nat → Nat} {b i : Nat} (C : pb_C D k own cc nL fr lo p R s m args c) (hP : va_P D pb_cl (bk_W a ra k n fs op tn mn sz fd pg en bl pl wa M) H) (hb : b < n) (hi : i < 64) (hdg : decode cc pc = .ok (.baload, 1)) (kk : W p l e R s m args below meth c H locs cells slots Q (F0 m (pc + 1) ls (.int (sb_b (M b i)) :: rest))) : W p l e R s m args below meth c H locs cells slots Q (F0 m pc ls (.int (nI i) :: .ref (ra b) :: rest)) :=
  pb_bld C hP (9 + b) (pb_rows_get (X := bk_X a ra k n fs op tn mn sz fd pg en bl pl wa) hb) hi (by decide) hdg kk
theorem bk_rst {a ra : Nat → Nat} {n fs op : Nat} {tn : Int32} {mn sz : Nat} {fd pg en bl pl wa : Nat → Nat} {M : Nat → Nat → Nat} {b i v : Nat} {x : Int32} (C : pb_C D k own cc nL fr lo p R s m args c) (hw : pb_W D A H0 (bk_W a ra k n fs op tn mn sz fd pg en bl pl wa M) H locs) (hb : b < n) (hi : i < 64) (hx : x.toInt8.toInt32 = sb_b v) (hdg : decode cc pc = .ok (.bastore, 1)) (kk : ∀ (H : Heap) (locs : List Loc), pb_W D A H0 (bk_W a ra k n fs op tn mn sz fd pg en bl pl wa (va_up M b (va_up (M b) i v))) H locs → W p l e R s m args below meth c H locs cells slots Q (F0 m (pc + 1) ls rest)) : W p l e R s m args below meth c H locs cells slots Q (F0 m pc ls (.int x :: .int (nI i) :: .ref (ra b) :: rest)) :=
  pb_bst C hw (9 + b) (pb_rows_get (X := bk_X a ra k n fs op tn mn sz fd pg en bl pl wa) hb) hi (by decide) hx (pb_rows_set (X := bk_X a ra k n fs op tn mn sz fd pg en bl pl wa)) hdg kk
end PBF
theorem k_Bk_fillRoot : pb_cV "PuzzleBook" y_Bk_fillRoot b_Bk_fillRoot 4 1 none := ⟨m_55, s_0, m_1, m_56, by decide +kernel, by decide +kernel, by decide +kernel, by decide +kernel⟩
theorem k_Bk_clear : pb_cV "PuzzleBook" y_Bk_clear b_Bk_clear 2 0 none := ⟨m_59, s_1, m_1, m_60, by decide +kernel, by decide +kernel, by decide +kernel, by decide +kernel⟩
theorem k_Bk_seal : pb_cV "PuzzleBook" y_Bk_seal b_Bk_seal 3 0 none := ⟨m_63, s_2, m_1, m_64, by decide +kernel, by decide +kernel, by decide +kernel, by decide +kernel⟩
theorem k_Bk_sumOf : pb_cS y_Bk_sumOf b_Bk_sumOf 3 1 (some .int) := ⟨m_66, m_1, m_67, by decide +kernel, by decide +kernel, by decide +kernel⟩
theorem k_In_rotateLeft : pb_cS y_In_rotateLeft b_In_rotateLeft 2 2 (some .int) := ⟨m_69, m_4, m_70, by decide +kernel, by decide +kernel, by decide +kernel⟩
theorem k_Bk_reopen : pb_cV "PuzzleBook" y_Bk_reopen b_Bk_reopen 3 0 (some .int) := ⟨m_73, m_74, m_1, m_75, by decide +kernel, by decide +kernel, by decide +kernel, by decide +kernel⟩
theorem k_Bk_isRight : pb_cV "PuzzleBook" y_Bk_isRight b_Bk_isRight 2 1 (some .boolean) := ⟨m_78, s_3, m_1, m_79, by decide +kernel, by decide +kernel, by decide +kernel, by decide +kernel⟩
theorem k_Bk_told : pb_cS y_Bk_told b_Bk_told 1 1 (some .int) := ⟨m_81, m_1, m_82, by decide +kernel, by decide +kernel, by decide +kernel⟩
theorem k_Bk_reads : pb_cV "PuzzleBook" y_Bk_reads b_Bk_reads 5 1 (some .boolean) := ⟨m_85, s_4, m_1, m_86, by decide +kernel, by decide +kernel, by decide +kernel, by decide +kernel⟩
theorem k_Bk_isUsed : pb_cV "PuzzleBook" y_Bk_isUsed b_Bk_isUsed 3 1 (some .boolean) := ⟨m_89, s_5, m_1, m_90, by decide +kernel, by decide +kernel, by decide +kernel, by decide +kernel⟩
theorem k_Bk_sizeOf : pb_cV "PuzzleBook" y_Bk_sizeOf b_Bk_sizeOf 2 1 (some .int) := ⟨m_93, s_6, m_1, m_94, by decide +kernel, by decide +kernel, by decide +kernel, by decide +kernel⟩
theorem k_Bk_feed : pb_cV "PuzzleBook" y_Bk_feed b_Bk_feed 2 1 (some .boolean) := ⟨m_124, m_125, m_1, m_126, by decide +kernel, by decide +kernel, by decide +kernel, by decide +kernel⟩
theorem k_Bk_put : pb_cV "PuzzleBook" y_Bk_put b_Bk_put 4 1 (some .int) := ⟨m_128, m_129, m_1, m_130, by decide +kernel, by decide +kernel, by decide +kernel, by decide +kernel⟩
theorem k_Bk_isFed : pb_cV "PuzzleBook" y_Bk_isFed b_Bk_isFed 3 1 (some .boolean) := ⟨m_134, s_7, m_1, m_135, by decide +kernel, by decide +kernel, by decide +kernel, by decide +kernel⟩
theorem k_Bk_freeBlock : pb_cV "PuzzleBook" y_Bk_freeBlock b_Bk_freeBlock 2 0 (some .int) := ⟨m_138, s_8, m_1, m_139, by decide +kernel, by decide +kernel, by decide +kernel, by decide +kernel⟩
theorem k_Pn_writeAll : pb_cV "PuzzleBook$Pen" y_Pn_writeAll b_Pn_writeAll 4 2 none := ⟨m_141, m_142, m_3, m_143, by decide +kernel, by decide +kernel, by decide +kernel, by decide +kernel⟩
theorem k_Pn_write : pb_cV "PuzzleBook$Pen" y_Pn_write b_Pn_write 4 3 none := ⟨m_145, m_146, m_3, m_147, by decide +kernel, by decide +kernel, by decide +kernel, by decide +kernel⟩
theorem k_Bk_turnTo : pb_cV "PuzzleBook" y_Bk_turnTo b_Bk_turnTo 1 0 none := ⟨m_150, s_9, m_1, m_151, by decide +kernel, by decide +kernel, by decide +kernel, by decide +kernel⟩
theorem k_Bk_find : pb_cV "PuzzleBook" y_Bk_find b_Bk_find 4 2 (some .int) := ⟨m_154, m_155, m_1, m_156, by decide +kernel, by decide +kernel, by decide +kernel, by decide +kernel⟩
theorem k_Bk_nameOf : pb_cV "PuzzleBook" y_Bk_nameOf b_Bk_nameOf 2 1 (some .int) := ⟨m_159, s_10, m_1, m_160, by decide +kernel, by decide +kernel, by decide +kernel, by decide +kernel⟩
theorem k_Bk_entry : pb_cV "PuzzleBook" y_Bk_entry b_Bk_entry 3 2 (some .int) := ⟨m_162, m_163, m_1, m_164, by decide +kernel, by decide +kernel, by decide +kernel, by decide +kernel⟩
theorem k_Bk_drop : pb_cV "PuzzleBook" y_Bk_drop b_Bk_drop 3 1 (some .boolean) := ⟨m_166, m_167, m_1, m_168, by decide +kernel, by decide +kernel, by decide +kernel, by decide +kernel⟩
theorem k_Bk_crash : pb_cV "PuzzleBook" y_Bk_crash b_Bk_crash 2 1 (some .boolean) := ⟨m_170, m_171, m_1, m_172, by decide +kernel, by decide +kernel, by decide +kernel, by decide +kernel⟩
theorem k_Pn_takeBack : pb_cV "PuzzleBook$Pen" y_Pn_takeBack b_Pn_takeBack 3 1 none := ⟨m_174, m_175, m_3, m_176, by decide +kernel, by decide +kernel, by decide +kernel, by decide +kernel⟩
theorem k_Bk_poke : pb_cV "PuzzleBook" y_Bk_poke b_Bk_poke 4 3 (some .boolean) := ⟨m_179, m_180, m_1, m_181, by decide +kernel, by decide +kernel, by decide +kernel, by decide +kernel⟩
theorem k_Bk_badAt : pb_cV "PuzzleBook" y_Bk_badAt b_Bk_badAt 2 0 (some .int) := ⟨m_183, m_184, m_1, m_185, by decide +kernel, by decide +kernel, by decide +kernel, by decide +kernel⟩
theorem k_Bk_free : pb_cV "PuzzleBook" y_Bk_free b_Bk_free 1 0 (some .int) := ⟨m_187, m_188, m_1, m_189, by decide +kernel, by decide +kernel, by decide +kernel, by decide +kernel⟩
theorem k_Bk_root : pb_cV "PuzzleBook" y_Bk_root b_Bk_root 1 0 (some .int) := ⟨m_191, m_192, m_1, m_193, by decide +kernel, by decide +kernel, by decide +kernel, by decide +kernel⟩
theorem k_Lw_cell : pb_cS y_Lw_cell b_Lw_cell 2 2 (some .int) := ⟨m_195, m_0, m_196, by decide +kernel, by decide +kernel, by decide +kernel⟩
theorem k_Bk_byteAt : pb_cV "PuzzleBook" y_Bk_byteAt b_Bk_byteAt 3 2 (some .int) := ⟨m_274, m_275, m_1, m_276, by decide +kernel, by decide +kernel, by decide +kernel, by decide +kernel⟩
theorem k_Md_writeRoot : pb_cV "PuzzleBookModel" y_Md_writeRoot b_Md_writeRoot 6 2 none := ⟨m_285, s_12, m_5, m_286, by decide +kernel, by decide +kernel, by decide +kernel, by decide +kernel⟩
theorem k_Md_write : pb_cV "PuzzleBookModel" y_Md_write b_Md_write 3 2 none := ⟨m_289, s_13, m_5, m_290, by decide +kernel, by decide +kernel, by decide +kernel, by decide +kernel⟩
theorem k_Md_writeSum : pb_cV "PuzzleBookModel" y_Md_writeSum b_Md_writeSum 4 1 none := ⟨m_293, s_14, m_5, m_294, by decide +kernel, by decide +kernel, by decide +kernel, by decide +kernel⟩
theorem k_Md_sumOf : pb_cV "PuzzleBookModel" y_Md_sumOf b_Md_sumOf 4 1 (some .int) := ⟨m_297, s_15, m_5, m_298, by decide +kernel, by decide +kernel, by decide +kernel, by decide +kernel⟩
theorem k_Md_thrown : pb_cV "PuzzleBookModel" y_Md_thrown b_Md_thrown 1 0 (some .int) := ⟨m_338, m_339, m_5, m_340, by decide +kernel, by decide +kernel, by decide +kernel, by decide +kernel⟩
theorem k_Md_feed : pb_cV "PuzzleBookModel" y_Md_feed b_Md_feed 2 1 (some .boolean) := ⟨m_342, m_343, m_5, m_344, by decide +kernel, by decide +kernel, by decide +kernel, by decide +kernel⟩
theorem k_Md_put : pb_cV "PuzzleBookModel" y_Md_put b_Md_put 3 1 (some .int) := ⟨m_346, m_347, m_5, m_348, by decide +kernel, by decide +kernel, by decide +kernel, by decide +kernel⟩
theorem k_Md_hasFed : pb_cV "PuzzleBookModel" y_Md_hasFed b_Md_hasFed 3 1 (some .boolean) := ⟨m_352, s_16, m_5, m_353, by decide +kernel, by decide +kernel, by decide +kernel, by decide +kernel⟩
theorem k_Md_longOf : pb_cV "PuzzleBookModel" y_Md_longOf b_Md_longOf 2 1 (some .int) := ⟨m_356, s_17, m_5, m_357, by decide +kernel, by decide +kernel, by decide +kernel, by decide +kernel⟩
theorem k_Md_leastFree : pb_cV "PuzzleBookModel" y_Md_leastFree b_Md_leastFree 2 0 (some .int) := ⟨m_360, s_18, m_5, m_361, by decide +kernel, by decide +kernel, by decide +kernel, by decide +kernel⟩
theorem k_Md_isUsed : pb_cV "PuzzleBookModel" y_Md_isUsed b_Md_isUsed 3 1 (some .boolean) := ⟨m_364, s_19, m_5, m_365, by decide +kernel, by decide +kernel, by decide +kernel, by decide +kernel⟩
theorem k_Md_writeEntry : pb_cV "PuzzleBookModel" y_Md_writeEntry b_Md_writeEntry 4 2 none := ⟨m_368, s_20, m_5, m_369, by decide +kernel, by decide +kernel, by decide +kernel, by decide +kernel⟩
theorem k_Md_turnTo : pb_cV "PuzzleBookModel" y_Md_turnTo b_Md_turnTo 2 1 none := ⟨m_372, s_21, m_5, m_373, by decide +kernel, by decide +kernel, by decide +kernel, by decide +kernel⟩
theorem k_Md_drop : pb_cV "PuzzleBookModel" y_Md_drop b_Md_drop 3 1 (some .boolean) := ⟨m_375, m_376, m_5, m_377, by decide +kernel, by decide +kernel, by decide +kernel, by decide +kernel⟩
theorem k_Md_find : pb_cV "PuzzleBookModel" y_Md_find b_Md_find 4 2 (some .int) := ⟨m_379, m_380, m_5, m_381, by decide +kernel, by decide +kernel, by decide +kernel, by decide +kernel⟩
theorem k_Md_nameOf : pb_cV "PuzzleBookModel" y_Md_nameOf b_Md_nameOf 2 1 (some .int) := ⟨m_384, s_22, m_5, m_385, by decide +kernel, by decide +kernel, by decide +kernel, by decide +kernel⟩
theorem k_Md_entry : pb_cV "PuzzleBookModel" y_Md_entry b_Md_entry 3 2 (some .int) := ⟨m_387, m_388, m_5, m_389, by decide +kernel, by decide +kernel, by decide +kernel, by decide +kernel⟩
theorem k_Md_crash : pb_cV "PuzzleBookModel" y_Md_crash b_Md_crash 3 1 (some .boolean) := ⟨m_391, m_392, m_5, m_393, by decide +kernel, by decide +kernel, by decide +kernel, by decide +kernel⟩
theorem k_Md_reopen : pb_cV "PuzzleBookModel" y_Md_reopen b_Md_reopen 6 0 (some .int) := ⟨m_395, m_396, m_5, m_397, by decide +kernel, by decide +kernel, by decide +kernel, by decide +kernel⟩
theorem k_Md_rootIsRight : pb_cV "PuzzleBookModel" y_Md_rootIsRight b_Md_rootIsRight 6 1 (some .boolean) := ⟨m_400, s_23, m_5, m_401, by decide +kernel, by decide +kernel, by decide +kernel, by decide +kernel⟩
theorem k_Md_isRight : pb_cV "PuzzleBookModel" y_Md_isRight b_Md_isRight 4 1 (some .boolean) := ⟨m_404, s_24, m_5, m_405, by decide +kernel, by decide +kernel, by decide +kernel, by decide +kernel⟩
theorem k_Md_entryIsRight : pb_cV "PuzzleBookModel" y_Md_entryIsRight b_Md_entryIsRight 3 1 (some .boolean) := ⟨m_408, s_25, m_5, m_409, by decide +kernel, by decide +kernel, by decide +kernel, by decide +kernel⟩
theorem k_Md_poke : pb_cV "PuzzleBookModel" y_Md_poke b_Md_poke 4 3 (some .boolean) := ⟨m_411, m_412, m_5, m_413, by decide +kernel, by decide +kernel, by decide +kernel, by decide +kernel⟩
theorem k_Md_isByte : pb_cV "PuzzleBookModel" y_Md_isByte b_Md_isByte 3 2 (some .boolean) := ⟨m_416, s_26, m_5, m_417, by decide +kernel, by decide +kernel, by decide +kernel, by decide +kernel⟩
theorem k_Md_badAt : pb_cV "PuzzleBookModel" y_Md_badAt b_Md_badAt 2 0 (some .int) := ⟨m_419, m_420, m_5, m_421, by decide +kernel, by decide +kernel, by decide +kernel, by decide +kernel⟩
theorem k_Md_byteAt : pb_cV "PuzzleBookModel" y_Md_byteAt b_Md_byteAt 3 2 (some .int) := ⟨m_423, m_424, m_5, m_425, by decide +kernel, by decide +kernel, by decide +kernel, by decide +kernel⟩
theorem k_Md_free : pb_cV "PuzzleBookModel" y_Md_free b_Md_free 1 0 (some .int) := ⟨m_427, m_428, m_5, m_429, by decide +kernel, by decide +kernel, by decide +kernel, by decide +kernel⟩
theorem k_Md_root : pb_cV "PuzzleBookModel" y_Md_root b_Md_root 1 0 (some .int) := ⟨m_431, m_432, m_5, m_433, by decide +kernel, by decide +kernel, by decide +kernel, by decide +kernel⟩
end
section
-- ===== pure part; the first rows (bt .. nx_xor) began as kit/laws/BITS.to-paste =====
def bt (x : Int32) (i : Nat) : Bool := x.toBitVec.getLsbD i
theorem b_ext {x y : Int32} (h : ∀ i, i < 32 → bt x i = bt y i) : x = y := Int32.toBitVec_inj.mp (BitVec.eq_of_getLsbD_eq (fun i hi => h i hi))
theorem b_or (x y : Int32) (i : Nat) : bt (x ||| y) i = (bt x i || bt y i) := by unfold bt; rw [Int32.toBitVec_or, BitVec.getLsbD_or]
theorem b_and (x y : Int32) (i : Nat) : bt (x &&& y) i = (bt x i && bt y i) := by unfold bt; rw [Int32.toBitVec_and, BitVec.getLsbD_and]
theorem b_xor (x y : Int32) (i : Nat) : bt (x ^^^ y) i = (bt x i ^^ bt y i) := by unfold bt; rw [Int32.toBitVec_xor, BitVec.getLsbD_xor]
theorem b_big {x : Int32} {i : Nat} (h : 32 ≤ i) : bt x i = false := BitVec.getLsbD_of_ge _ _ h
theorem b_255 (i : Nat) : bt 255 i = decide (i < 8) := by
  rcases Nat.lt_or_ge i 32 with h | h
  · exact (by decide +kernel : ∀ i, i < 32 → bt 255 i = decide (i < 8)) i h
  · rw [b_big h, decide_eq_false (by omega)]
theorem b_65535 (i : Nat) : bt 65535 i = decide (i < 16) := by
  rcases Nat.lt_or_ge i 32 with h | h
  · exact (by decide +kernel : ∀ i, i < 32 → bt 65535 i = decide (i < 16)) i h
  · rw [b_big h, decide_eq_false (by omega)]
theorem b_m1 : ∀ i, i < 32 → bt (-1) i = true := by decide +kernel
theorem b_0 (i : Nat) : bt 0 i = false := BitVec.getLsbD_zero
theorem s_l : ∀ n, n < 32 → ((nI n &&& 31).toBitVec.smod 32).toNat = n := by decide +kernel
theorem s_u : ∀ n, n < 32 → (((nI n).toUInt32 &&& Int32.toUInt32 31).toBitVec % 32).toNat = n := by decide +kernel
theorem b_shl (n : Nat) (hn : n < 32) (x : Int32) {i : Nat} (hi : i < 32) : bt (x <<< (nI n &&& 31)) i = (decide (n ≤ i) && bt x (i - n)) := by
  unfold bt
  rw [Int32.toBitVec_shiftLeft]
  show (x.toBitVec <<< ((nI n &&& 31).toBitVec.smod 32).toNat).getLsbD i = _
  rw [s_l n hn, BitVec.getLsbD_shiftLeft]
  rcases Nat.lt_or_ge i n with h | h
  · simp [h, Nat.not_le.mpr h]
  · simp [hi, h, Nat.not_lt.mpr h]
theorem b_ushr (n : Nat) (hn : n < 32) (x : Int32) (i : Nat) : bt ((x.toUInt32 >>> ((nI n).toUInt32 &&& Int32.toUInt32 31)).toInt32) i = bt x (n + i) := by
  show (x.toUInt32 >>> ((nI n).toUInt32 &&& Int32.toUInt32 31)).toBitVec.getLsbD i = x.toUInt32.toBitVec.getLsbD (n + i)
  rw [UInt32.toBitVec_shiftRight]
  show (x.toUInt32.toBitVec >>> (((nI n).toUInt32 &&& Int32.toUInt32 31).toBitVec % 32).toNat).getLsbD i = _
  rw [s_u n hn, BitVec.getLsbD_ushiftRight]
theorem b_sshr (n : Nat) (hn : n < 32) (x : Int32) {i : Nat} (hi : i < 32) : bt (x >>> (nI n &&& 31)) i = if n + i < 32 then bt x (n + i) else bt x 31 := by
  unfold bt
  rw [Int32.toBitVec_shiftRight]
  show (x.toBitVec.sshiftRight ((nI n &&& 31).toBitVec.smod 32).toNat).getLsbD i = _
  rw [s_l n hn, BitVec.getLsbD_sshiftRight, BitVec.msb_eq_getLsbD_last]
  simp [hi]
theorem b_shl8 (x : Int32) {i : Nat} (hi : i < 32) : bt (x <<< ((8 : Int32) &&& 31)) i = (decide (8 ≤ i) && bt x (i - 8)) := b_shl 8 (by omega) x hi
theorem b_shl16 (x : Int32) {i : Nat} (hi : i < 32) : bt (x <<< ((16 : Int32) &&& 31)) i = (decide (16 ≤ i) && bt x (i - 16)) := b_shl 16 (by omega) x hi
theorem b_shl24 (x : Int32) {i : Nat} (hi : i < 32) : bt (x <<< ((24 : Int32) &&& 31)) i = (decide (24 ≤ i) && bt x (i - 24)) := b_shl 24 (by omega) x hi
theorem b_sshr8 (x : Int32) {i : Nat} (hi : i < 32) : bt (x >>> ((8 : Int32) &&& 31)) i = if 8 + i < 32 then bt x (8 + i) else bt x 31 := b_sshr 8 (by omega) x hi
/-! ===== nI under and, xor, >>>, one bit, 65535 ===== -/
theorem nx_and (a b : Nat) : nI a &&& nI b = nI (a &&& b) := by
  apply Int32.toBitVec_inj.1
  show BitVec.ofNat 32 a &&& BitVec.ofNat 32 b = BitVec.ofNat 32 (a &&& b)
  apply BitVec.eq_of_getLsbD_eq
  intro i hi
  simp [hi]
theorem nx_xor (a b : Nat) : nI a ^^^ nI b = nI (a ^^^ b) := by
  apply Int32.toBitVec_inj.1
  show BitVec.ofNat 32 a ^^^ BitVec.ofNat 32 b = BitVec.ofNat 32 (a ^^^ b)
  apply BitVec.eq_of_getLsbD_eq
  intro i hi
  simp [hi]
theorem nx_or (a b : Nat) : nI a ||| nI b = nI (a ||| b) := by
  apply Int32.toBitVec_inj.1
  show BitVec.ofNat 32 a ||| BitVec.ofNat 32 b = BitVec.ofNat 32 (a ||| b)
  apply BitVec.eq_of_getLsbD_eq
  intro i hi
  simp [hi]
/-- what a byte keeps of an int -/
theorem pb_toB (y : Int32) : y.toInt8.toInt32 = sb_b (y.toBitVec.toNat % 256) := by
  unfold sb_b
  congr 1
  apply Int8.toBitVec_inj.1
  show y.toBitVec.signExtend 8 = (BitVec.ofNat 32 (y.toBitVec.toNat % 256)).signExtend 8
  apply BitVec.eq_of_getLsbD_eq
  intro i hi
  rw [BitVec.getLsbD_signExtend, BitVec.getLsbD_signExtend]
  have h : i < 32 := by omega
  simp only [hi, h, decide_true, if_true, Bool.true_and, BitVec.getLsbD_ofNat]
  rw [show (256 : Nat) = 2 ^ 8 from rfl, Nat.testBit_mod_two_pow]
  simp [hi, BitVec.getLsbD]
theorem pb_bmod (n : Nat) : (nI n).toInt8.toInt32 = sb_b (n % 256) := by
  rw [pb_toB]
  congr 1
  show (BitVec.ofNat 32 n).toNat % 256 = n % 256
  rw [BitVec.toNat_ofNat]
  omega
theorem pb_sb_inj : ∀ a, a < 256 → ∀ b, b < 256 → sb_b a = sb_b b → a = b := by
  intro a ha b hb h
  have h1 := (sb_byte a ha).1
  rw [h, (sb_byte b hb).1] at h1
  exact ((nI_eq (by omega) (by omega)).mp h1).symm
/-- byte j of an int -/
def pb_sb (s : Int32) (j : Nat) : Nat := s.toBitVec.toNat / 2 ^ (8 * j) % 256
theorem pb_sb_lt (s : Int32) (j : Nat) : pb_sb s j < 256 := Nat.mod_lt _ (by decide)
theorem pb_sb_shr (s : Int32) {j : Nat} (hj : j < 4) : (s >>> (nI (8 * j) &&& 31)).toInt8.toInt32 = sb_b (pb_sb s j) := by
  rw [pb_toB]
  congr 1
  unfold pb_sb
  apply Nat.eq_of_testBit_eq
  intro i
  rw [show (256 : Nat) = 2 ^ 8 from rfl, Nat.testBit_mod_two_pow, Nat.testBit_mod_two_pow, Nat.testBit_div_two_pow]
  by_cases hi : i < 8
  · have h := b_sshr (8 * j) (by omega) s (i := i) (by omega)
    rw [if_pos (by omega)] at h
    simp only [hi, decide_true, Bool.true_and]
    rw [Nat.add_comm i]
    exact h
  · simp [hi]
theorem pb_sb_ushr (s : Int32) {j : Nat} (hj : j < 4) : (s.toUInt32 >>> ((nI (8 * j)).toUInt32 &&& Int32.toUInt32 31)).toInt32 &&& nI 255 = nI (pb_sb s j) := by
  rw [pk_and _ 8 (by decide), pk_ushr s (nI (8 * j)) (8 * j) (s_u (8 * j) (by omega))]
  rfl
/-- one step of the sum -/
def pb_mix (s : Int32) (c : Nat) : Int32 := (((s ^^^ nI c) <<< (nI 17 &&& 31)) ||| ((s ^^^ nI c).toUInt32 >>> ((nI 15).toUInt32 &&& Int32.toUInt32 31)).toInt32) * (-2048144789)
def pb_sum (f : Nat → Nat) : Nat → Int32
  | 0 => 1
  | j + 1 => pb_mix (pb_sum f j) (f j)
theorem pb_sum_congr {f g : Nat → Nat} : ∀ j, (∀ i, i < j → f i = g i) → pb_sum f j = pb_sum g j
  | 0, _ => rfl
  | j + 1, h => by
    unfold pb_sum
    rw [pb_sum_congr j (fun i hi => h i (by omega)), h j (by omega)]
/-- Integer.rotateLeft(x, 17) -/
theorem pb_rot (x : Int32) : (x <<< (nI 17 &&& 31)) ||| (x.toUInt32 >>> ((-nI 17).toUInt32 &&& Int32.toUInt32 31)).toInt32 = (x <<< (nI 17 &&& 31)) ||| (x.toUInt32 >>> ((nI 15).toUInt32 &&& Int32.toUInt32 31)).toInt32 := by
  rw [show ((-nI 17).toUInt32 &&& Int32.toUInt32 31) = ((nI 15).toUInt32 &&& Int32.toUInt32 31) by decide +kernel]
/-- four bytes, put together -/
def pb_told (f : Nat → Nat) : Nat := f 60 + 256 * f 61 + 65536 * f 62 + 16777216 * f 63
theorem pb_orN {a b j : Nat} (ha : a < 2 ^ j) : nI a ||| nI (b * 2 ^ j) = nI (a + b * 2 ^ j) := by
  rw [nx_or]
  congr 1
  rw [Nat.or_comm, Nat.mul_comm, ← Nat.two_pow_add_eq_or_of_lt ha]
  omega
theorem pb_shlN {b : Nat} (j : Nat) (hj : j < 32) (h : b * 2 ^ j < 2 ^ 32) : nI b <<< (nI j &&& 31) = nI (b * 2 ^ j) := pk_shlN _ j (s_l j hj) h
theorem pb_told_eq {f : Nat → Nat} (h0 : f 60 < 256) (h1 : f 61 < 256) (h2 : f 62 < 256) (h3 : f 63 < 256) : nI (f 60) ||| (nI (f 61) <<< (nI 8 &&& 31)) ||| (nI (f 62) <<< (nI 16 &&& 31)) ||| (nI (f 63) <<< (nI 24 &&& 31)) = nI (pb_told f) := by
  rw [pb_shlN 8 (by decide) (by omega), pb_shlN 16 (by decide) (by omega), pb_shlN 24 (by decide) (by omega), pb_orN (by omega), pb_orN (by omega), pb_orN (by omega)]
  unfold pb_told
  congr 1
  omega
/-- a block's sum is the one that it tells -/
def pb_right (f : Nat → Nat) : Prop := ∀ j, j < 4 → f (60 + j) = pb_sb (pb_sum f 60) j
theorem pb_right_iff {f : Nat → Nat} (h : ∀ j, f j < 256) : pb_sum f 60 = nI (pb_told f) ↔ pb_right f := by
  have e0 := h 60
  have e1 := h 61
  have e2 := h 62
  have e3 := h 63
  have key : ∀ s : Int32, s = nI (pb_told f) ↔ s.toBitVec.toNat = pb_told f := by
    intro s
    constructor
    · intro q
      rw [q]
      exact pk_tn (by unfold pb_told; omega)
    · intro q
      apply Int32.toBitVec_inj.1
      apply BitVec.eq_of_toNat_eq
      rw [q]
      exact (pk_tn (by unfold pb_told; omega)).symm
  rw [key]
  have hb : (pb_sum f 60).toBitVec.toNat < 2 ^ 32 := BitVec.isLt _
  unfold pb_right pb_sb pb_told
  generalize (pb_sum f 60).toBitVec.toNat = N at hb ⊢
  constructor
  · intro q j hj
    rcases (show j = 0 ∨ j = 1 ∨ j = 2 ∨ j = 3 by omega) with rfl | rfl | rfl | rfl
    · show f 60 = N / 2 ^ (8 * 0) % 256; omega
    · show f 61 = N / 2 ^ (8 * 1) % 256; omega
    · show f 62 = N / 2 ^ (8 * 2) % 256; omega
    · show f 63 = N / 2 ^ (8 * 3) % 256; omega
  · intro q
    have q0 : f 60 = N / 2 ^ (8 * 0) % 256 := q 0 (by decide)
    have q1 : f 61 = N / 2 ^ (8 * 1) % 256 := q 1 (by decide)
    have q2 : f 62 = N / 2 ^ (8 * 2) % 256 := q 2 (by decide)
    have q3 : f 63 = N / 2 ^ (8 * 3) % 256 := q 3 (by decide)
    omega
theorem pb_right_congr {f g : Nat → Nat} (h : ∀ i, i < 64 → f i = g i) : pb_right f ↔ pb_right g := by
  unfold pb_right
  rw [pb_sum_congr 60 (fun i hi => h i (by omega))]
  constructor
  · intro q j hj; rw [← h _ (by omega)]; exact q j hj
  · intro q j hj; rw [h _ (by omega)]; exact q j hj
/-- a name out of two bytes -/
theorem pb_name {a b : Nat} (ha : a < 256) (hb : b < 256) : nI a ||| (nI b <<< (nI 8 &&& 31)) = nI (a + 256 * b) := by
  rw [pb_shlN 8 (by decide) (by omega), pb_orN (by omega)]
  congr 1
  omega
theorem pb_xorB {a b : Nat} (ha : a < 256) (hb : b < 256) : (sb_b a ^^^ sb_b b).toInt8.toInt32 = sb_b (a ^^^ b) := by
  have ka : (sb_b a).toBitVec.toNat % 256 = a := (by decide +kernel : ∀ a, a < 256 → (sb_b a).toBitVec.toNat % 256 = a) a ha
  have kb : (sb_b b).toBitVec.toNat % 256 = b := (by decide +kernel : ∀ a, a < 256 → (sb_b a).toBitVec.toNat % 256 = a) b hb
  rw [pb_toB]
  congr 1
  show (Int32.toBitVec (sb_b a ^^^ sb_b b)).toNat % 256 = a ^^^ b
  rw [Int32.toBitVec_xor, BitVec.toNat_xor, show (256 : Nat) = 2 ^ 8 from rfl, Nat.xor_mod_two_pow]
  rw [show (2 : Nat) ^ 8 = 256 from rfl, ka, kb]
theorem pb_xor_lt {a b : Nat} (ha : a < 256) (hb : b < 256) : a ^^^ b < 256 := Nat.xor_lt_two_pow (n := 8) ha hb
-- ===== functions that are filled place by place =====
def pb_fill {α : Type} (f : Nat → α) (a i : Nat) (v : Nat → α) : Nat → α := fun q => if a ≤ q ∧ q < a + i then v (q - a) else f q
theorem pb_fill_0 {α : Type} (f : Nat → α) (a : Nat) (v : Nat → α) : pb_fill f a 0 v = f := by
  funext q
  unfold pb_fill
  rw [if_neg (by omega)]
theorem pb_fill_s {α : Type} (f : Nat → α) (a i : Nat) (v : Nat → α) : va_up (pb_fill f a i v) (a + i) (v i) = pb_fill f a (i + 1) v := by
  funext q
  unfold pb_fill va_up
  by_cases h : q = a + i
  · subst h
    rw [if_pos rfl, if_pos (by omega), Nat.add_sub_cancel_left]
  · rw [if_neg h]
    dsimp only
    by_cases h2 : a ≤ q ∧ q < a + i
    · rw [if_pos h2, if_pos (by omega)]
    · rw [if_neg h2, if_neg (by omega)]
theorem pb_fill_s0 {α : Type} (f : Nat → α) (i : Nat) (v : Nat → α) : va_up (pb_fill f 0 i v) i (v i) = pb_fill f 0 (i + 1) v := by
  have h := pb_fill_s f 0 i v
  rw [Nat.zero_add] at h
  exact h
theorem pb_fill_in {α : Type} {f : Nat → α} {a i q : Nat} {v : Nat → α} (h : a ≤ q) (h2 : q < a + i) : pb_fill f a i v q = v (q - a) := if_pos ⟨h, h2⟩
theorem pb_fill_out {α : Type} {f : Nat → α} {a i q : Nat} {v : Nat → α} (h : q < a ∨ a + i ≤ q) : pb_fill f a i v q = f q := if_neg (by omega)
/-- row b of the store: its first i places hold g -/
def pb_rowf (M : Nat → Nat → Nat) (b i : Nat) (g : Nat → Nat) : Nat → Nat → Nat := fun x j => if x = b ∧ j < i then g j else M x j
theorem pb_rowf_0 (M : Nat → Nat → Nat) (b : Nat) (g : Nat → Nat) : pb_rowf M b 0 g = M := by
  funext x j
  unfold pb_rowf
  rw [if_neg (by omega)]
theorem pb_rowf_s (M : Nat → Nat → Nat) (b i : Nat) (g : Nat → Nat) : va_up (pb_rowf M b i g) b (va_up (pb_rowf M b i g b) i (g i)) = pb_rowf M b (i + 1) g := by
  funext x j
  unfold pb_rowf va_up
  by_cases h : x = b
  · subst h
    by_cases h2 : j = i
    · subst h2
      simp
    · by_cases h3 : j < i
      · simp [h2, h3, Nat.lt_succ_of_lt h3]
      · have : ¬ j < i + 1 := by omega
        simp [h2, h3, this]
  · simp [h]
theorem pb_rowf_at {M : Nat → Nat → Nat} {b i j : Nat} {g : Nat → Nat} (h : i ≤ j) : pb_rowf M b i g b j = M b j := if_neg (by omega)
theorem pb_rowf_ne {M : Nat → Nat → Nat} {b i x j : Nat} {g : Nat → Nat} (h : x ≠ b) : pb_rowf M b i g x j = M x j := if_neg (by omega)
theorem pb_rowf_in {M : Nat → Nat → Nat} {b i j : Nat} {g : Nat → Nat} (h : j < i) : pb_rowf M b i g b j = g j := if_pos ⟨rfl, h⟩
theorem pb_rowf_congr {M : Nat → Nat → Nat} {b i : Nat} {g g' : Nat → Nat} (h : ∀ j, j < i → g j = g' j) : pb_rowf M b i g = pb_rowf M b i g' := by
  funext x j
  unfold pb_rowf
  by_cases q : x = b ∧ j < i
  · rw [if_pos q, if_pos q, h j q.2]
  · rw [if_neg q, if_neg q]
theorem pb_rowf_lt {M : Nat → Nat → Nat} {b i : Nat} {g : Nat → Nat} (hM : ∀ x j, M x j < 256) (hg : ∀ j, j < i → g j < 256) : ∀ x j, pb_rowf M b i g x j < 256 := by
  intro x j
  unfold pb_rowf
  by_cases q : x = b ∧ j < i
  · rw [if_pos q]; exact hg j q.2
  · rw [if_neg q]; exact hM x j
/-- one place of the store -/
abbrev pb_put1 (M : Nat → Nat → Nat) (b i v : Nat) : Nat → Nat → Nat := va_up M b (va_up (M b) i v)
theorem pb_put1_lt {M : Nat → Nat → Nat} {b i v : Nat} (hM : ∀ x j, M x j < 256) (hv : v < 256) : ∀ x j, pb_put1 M b i v x j < 256 := by
  intro x j
  unfold pb_put1 va_up
  by_cases h : x = b
  · by_cases h2 : j = i
    · simp [h, h2, hv]
    · simp [h, h2, hM]
  · simp [h, hM]
/-- the reference's row of bytes -/
def pb_flat (M : Nat → Nat → Nat) : Nat → Nat := fun j => M (j / 64) (j % 64)
theorem pb_flat_at {M : Nat → Nat → Nat} {b i : Nat} (hi : i < 64) : pb_flat M (64 * b + i) = M b i := by
  unfold pb_flat
  rw [show (64 * b + i) / 64 = b by omega, show (64 * b + i) % 64 = i by omega]
theorem pb_flat_up {M : Nat → Nat → Nat} {b i v : Nat} (hi : i < 64) : va_up (pb_flat M) (64 * b + i) v = pb_flat (pb_put1 M b i v) := by
  funext j
  unfold pb_flat pb_put1 va_up
  by_cases h : j = 64 * b + i
  · subst h
    rw [show (64 * b + i) / 64 = b by omega, show (64 * b + i) % 64 = i by omega]
    simp
  · rw [if_neg h]
    by_cases h2 : j / 64 = b
    · rw [if_pos h2]
      have h3 : ¬ j % 64 = i := by omega
      rw [if_neg h3]
      dsimp only
      rw [h2]
    · rw [if_neg h2]
/-- a page with its sum -/
def pb_seal (f : Nat → Nat) : Nat → Nat := pb_fill f 60 4 (fun j => pb_sb (pb_sum f 60) j)
theorem pb_seal_lt {f : Nat → Nat} (h : ∀ j, f j < 256) (j : Nat) : pb_seal f j < 256 := by
  unfold pb_seal pb_fill
  by_cases q : 60 ≤ j ∧ j < 60 + 4
  · rw [if_pos q]; exact pb_sb_lt _ _
  · rw [if_neg q]; exact h j
theorem pb_seal_congr {f g : Nat → Nat} (h : ∀ j, j < 64 → f j = g j) : ∀ j, j < 64 → pb_seal f j = pb_seal g j := by
  intro j hj
  unfold pb_seal pb_fill
  rw [pb_sum_congr 60 (fun i hi => h i (by omega))]
  by_cases q : 60 ≤ j ∧ j < 60 + 4
  · rw [if_pos q, if_pos q]
  · rw [if_neg q, if_neg q, h j hj]
/-- a root's page: the entries but bu -/
def pb_cnt (mn bu : Nat) : Nat := if bu < mn then mn - 1 else mn
def pb_root (mn : Nat) (en : Nat → Nat) (bu : Nat) : Nat → Nat := fun j => if j = 0 then pb_cnt mn bu else if j ≤ pb_cnt mn bu then en (if j - 1 < bu then j - 1 else j) else 0
/-- an entry's page -/
def pb_ent (x fs : Nat) (fd : Nat → Nat) : Nat → Nat := fun j => if j = 0 then x % 256 else if j = 1 then x / 256 else if j = 2 then fs else if j < 3 + fs then fd (j - 3) else 0
theorem pb_root_lt {mn bu : Nat} {en : Nat → Nat} (hm : mn ≤ 40) (he : ∀ q, q < mn → en q < 256) (j : Nat) : pb_root mn en bu j < 256 := by
  unfold pb_root pb_cnt
  by_cases h0 : j = 0
  · rw [if_pos h0]; split <;> omega
  · rw [if_neg h0]
    by_cases h1 : bu < mn
    · rw [if_pos h1]
      by_cases h2 : j ≤ mn - 1
      · rw [if_pos h2]
        apply he
        split <;> omega
      · rw [if_neg h2]; decide
    · rw [if_neg h1]
      by_cases h2 : j ≤ mn
      · rw [if_pos h2]
        apply he
        split <;> omega
      · rw [if_neg h2]; decide
theorem pb_ent_lt {x fs : Nat} {fd : Nat → Nat} (hx : x < 65536) (hf : fs ≤ 48) (hd : ∀ q, fd q < 256) (j : Nat) : pb_ent x fs fd j < 256 := by
  unfold pb_ent
  by_cases h0 : j = 0
  · rw [if_pos h0]; omega
  · rw [if_neg h0]
    by_cases h1 : j = 1
    · rw [if_pos h1]; omega
    · rw [if_neg h1]
      by_cases h2 : j = 2
      · rw [if_pos h2]; omega
      · rw [if_neg h2]
        by_cases h3 : j < 3 + fs
        · rw [if_pos h3]; exact hd _
        · rw [if_neg h3]; decide
end
section
-- ===== small rows more =====
theorem pb_nil {D : va_G} {H : Heap} : va_P D pb_cl [] H := fun k q h => by simp at h
theorem pb_one {D : va_G} {H : Heap} {ws : va_W} (hP : va_P D pb_cl ws H) (q0 : Nat) {x : Nat × va_E} (h : ws[q0]? = some x) : va_P D pb_cl [x] H := by
  intro j q hj
  match j, hj with
  | 0, hj => cases hj; exact hP q0 _ h
  | j + 1, hj => simp at hj
theorem bk_one {D : va_G} {H : Heap} {a ra : Nat → Nat} {k : Nat → ClassId} {n fs op : Nat} {tn : Int32} {mn sz : Nat} {fd pg en bl pl wa : Nat → Nat} {M : Nat → Nat → Nat} {b : Nat} (hP : va_P D pb_cl (bk_W a ra k n fs op tn mn sz fd pg en bl pl wa M) H) (hb : b < n) : va_P D pb_cl [(ra b, pb_B (k 0) 64 (M b))] H :=
  pb_one hP (9 + b) (pb_rows_get (X := bk_X a ra k n fs op tn mn sz fd pg en bl pl wa) hb)
/-- the entry in block b has the row that is fed -/
def pb_same (M : Nat → Nat → Nat) (fs : Nat) (fd : Nat → Nat) (b : Nat) : Prop := M b 2 = fs ∧ ∀ i, i < fs → M b (3 + i) = fd i
def pb_used (mn : Nat) (en : Nat → Nat) (b : Nat) : Prop := ∃ e, e < mn ∧ en e = b
/-- the least free block, or none -/
def pb_free (n mn : Nat) (en : Nat → Nat) (b : Nat) : Prop := 3 ≤ b ∧ b < n ∧ ¬ pb_used mn en b ∧ ∀ b', 3 ≤ b' → b' < b → pb_used mn en b'
def pb_full (n mn : Nat) (en : Nat → Nat) : Prop := ∀ b', 3 ≤ b' → b' < n → pb_used mn en b'
end
section
-- ===== contracts of methods that read (by gen/m1.py) =====
set_option maxHeartbeats 4000000 in
set_option maxRecDepth 100000 in
theorem c_In_rotateLeft (l : Launch) (D : va_G) (k : Nat → ClassId)  (x y : Int32)  : Met l y_In_rotateLeft (pb_ws y_In_rotateLeft b_In_rotateLeft 2 (some .int)) (pb_rm 0 0 0) (pb_Pr D k [.int x, .int y] ([])) (vp_Si (fun r : Int32 => r = (x <<< (y &&& 31)) ||| (x.toUInt32 >>> ((-y).toUInt32 &&& Int32.toUInt32 31)).toInt32)) 0 0 (fun _ => False) := by
  refine pb_mkR R_In rfl (by decide) (Nat.le_of_ble_eq_true rfl) ?_
  intro p e R s m args below meth c Q ls C hP hl kr
  obtain ⟨hx, hb, hml, hown, hG, hkn, hR1, hR2⟩ := id C
  have hl : lv_has ls 2 [(0, .int x), (1, .int y)] := hl
  refine lv_iload_n hx hb d_In_rotateLeft_0 rfl (lv_at hl 0 rfl) ?_
  refine lv_iload_n hx hb d_In_rotateLeft_1 rfl (lv_at hl 1 rfl) ?_
  refine lv_ishl hx hb d_In_rotateLeft_2 ?_
  refine lv_iload_n hx hb d_In_rotateLeft_3 rfl (lv_at hl 0 rfl) ?_
  refine lv_iload_n hx hb d_In_rotateLeft_4 rfl (lv_at hl 1 rfl) ?_
  refine lv_ineg hx hb d_In_rotateLeft_5 ?_
  refine lv_iushr hx hb d_In_rotateLeft_6 rfl ?_
  refine lv_ior hx hb d_In_rotateLeft_7 ?_
  exact kr _ _ _ d_In_rotateLeft_8 rfl rfl
set_option maxHeartbeats 4000000 in
set_option maxRecDepth 100000 in
theorem c_Bk_sumOf (l : Launch) (D : va_G) (k : Nat → ClassId)  (o : Nat) (g : Nat → Nat) (hg : ∀ j, g j < 256) : Met l y_Bk_sumOf (pb_ws y_Bk_sumOf b_Bk_sumOf 3 (some .int)) (pb_rm 1 0 0) (pb_Pr D k [.ref o] ([(o, pb_B (k 0) 64 g)])) (vp_Si (fun r : Int32 => r = pb_sum g 60)) 0 0 (fun _ => False) := by
  refine pb_mkR R_Bk rfl (by decide) (Nat.le_of_ble_eq_true rfl) ?_
  intro p e R s m args below meth c Q ls C hP hl kr
  obtain ⟨hx, hb, hml, hown, hG, hkn, hR1, hR2⟩ := id C
  have hl : lv_has ls 3 [(0, .ref o)] := hl
  refine lv_iconst (v := nI 1) hx hb d_Bk_sumOf_0 (by decide +kernel) ?_
  refine lv_istore_n (lv' := [(1, .int (nI 1)), (0, .ref o)]) hx hb d_Bk_sumOf_1 rfl hl (by decide) rfl (fun ls hl => ?_)
  refine lv_iconst (v := nI 0) hx hb d_Bk_sumOf_2 (by decide +kernel) ?_
  refine lv_istore_n (lv' := [(2, .int (nI 0)), (1, .int (nI 1)), (0, .ref o)]) hx hb d_Bk_sumOf_3 rfl hl (by decide) rfl (fun ls hl => ?_)
  have loop4 : ∀ (fu : Nat) (i : Nat) (x : Int32) (ls : Array Slot), (i ≤ 60) → (60 + 1 ≤ i + fu) → (x = pb_sum g i) → lv_has ls 3 [(2, .int (nI i)), (1, .int x), (0, .ref o)] → W p l e R s m args below meth c s.heap [] 0 0 Q (F0 m 4 ls []) := by
    intro fu
    induction fu with
    | zero =>
      intro i x ls hi hn hx1
      exfalso
      omega
    | succ fu ih =>
      intro i x ls hi hn hx1 hl
      refine lv_iload_n hx hb d_Bk_sumOf_4 rfl (lv_at hl 0 rfl) ?_
      refine lv_bipush (v := nI 60) hx hb d_Bk_sumOf_5 (by decide +kernel) ?_
      refine pb_ge (tgt := 34) (by omega) (by omega) hx hb d_Bk_sumOf_7 (by decide) (fun c_1 => ?_) (fun c_1 => ?_)
      · refine lv_iload_n hx hb d_Bk_sumOf_34 rfl (lv_at hl 1 rfl) ?_
        exact kr _ _ _ d_Bk_sumOf_35 rfl (by rw [hx1, show i = 60 by omega])
      · refine lv_iload_n hx hb d_Bk_sumOf_10 rfl (lv_at hl 1 rfl) ?_
        refine lv_aload_n hx hb d_Bk_sumOf_11 rfl (lv_at hl 2 rfl) ?_
        refine lv_iload_n hx hb d_Bk_sumOf_12 rfl (lv_at hl 0 rfl) ?_
        refine pb_bld C hP 0 rfl (by omega) (by decide) d_Bk_sumOf_13 ?_
        refine lv_sipush (v := nI 255) hx hb d_Bk_sumOf_14 (by decide +kernel) ?_
        refine pb_and (hg _) hx hb d_Bk_sumOf_17 ?_
        refine lv_ixor hx hb d_Bk_sumOf_18 ?_
        refine lv_bipush (v := nI 17) hx hb d_Bk_sumOf_19 (by decide +kernel) ?_
        refine pb_sR (As := [.int (x ^^^ (nI (g i))), .int (nI 17)]) (rest := []) C pb_nil k_In_rotateLeft m_68 (c_In_rotateLeft l D k (x ^^^ (nI (g i))) (nI 17)) rfl hl.1 ⟨by decide, by decide⟩ ⟨Nat.zero_le _, Nat.zero_le _⟩ rfl (Nat.le_of_ble_eq_true rfl) d_Bk_sumOf_21 (fun r21 h21 => ?_)
        refine lv_ldc (v := (-2048144789 : Int32)) hx hb hown (hG _ m_71) d_Bk_sumOf_24 ?_
        refine lv_imul hx hb d_Bk_sumOf_26 ?_
        refine lv_istore_n (lv' := [(1, .int (r21 * ((-2048144789)))), (2, .int (nI i)), (0, .ref o)]) hx hb d_Bk_sumOf_27 rfl hl (by decide) rfl (fun ls hl => ?_)
        refine lv_iinc (v := nI (i + 1)) (lv' := [(2, .int (nI (i + 1))), (1, .int (r21 * ((-2048144789)))), (0, .ref o)]) hx hb d_Bk_sumOf_28 hl (k := 1) rfl (pb_i1 _) (by decide) rfl (fun ls hl => ?_)
        refine lv_goto (tgt := 4) hx hb d_Bk_sumOf_31 (by decide) ?_
        exact ih (i + 1) (r21 * ((-2048144789))) _ (by omega) (by omega) (by rw [h21, pb_rot, hx1]; rfl) (lv_sub hl [0, 1, 2] rfl)
  exact loop4 61 0 (nI 1) _ (by omega) (by omega) (show nI 1 = (1 : Int32) by decide +kernel) (lv_sub hl [0, 1, 2] rfl)
set_option maxHeartbeats 4000000 in
set_option maxRecDepth 100000 in
theorem c_Bk_told (l : Launch) (D : va_G) (k : Nat → ClassId)  (o : Nat) (g : Nat → Nat) (hg : ∀ j, g j < 256) : Met l y_Bk_told (pb_ws y_Bk_told b_Bk_told 1 (some .int)) (pb_rm 0 0 0) (pb_Pr D k [.ref o] ([(o, pb_B (k 0) 64 g)])) (vp_Si (fun r : Int32 => r = nI (pb_told g))) 0 0 (fun _ => False) := by
  refine pb_mkR R_Bk rfl (by decide) (Nat.le_of_ble_eq_true rfl) ?_
  intro p e R s m args below meth c Q ls C hP hl kr
  obtain ⟨hx, hb, hml, hown, hG, hkn, hR1, hR2⟩ := id C
  have hl : lv_has ls 1 [(0, .ref o)] := hl
  refine lv_aload_n hx hb d_Bk_told_0 rfl (lv_at hl 0 rfl) ?_
  refine lv_bipush (v := nI 60) hx hb d_Bk_told_1 (by decide +kernel) ?_
  refine pb_bld C hP 0 rfl (by omega) (by decide) d_Bk_told_3 ?_
  refine lv_sipush (v := nI 255) hx hb d_Bk_told_4 (by decide +kernel) ?_
  refine pb_and (hg _) hx hb d_Bk_told_7 ?_
  refine lv_aload_n hx hb d_Bk_told_8 rfl (lv_at hl 0 rfl) ?_
  refine lv_bipush (v := nI 61) hx hb d_Bk_told_9 (by decide +kernel) ?_
  refine pb_bld C hP 0 rfl (by omega) (by decide) d_Bk_told_11 ?_
  refine lv_sipush (v := nI 255) hx hb d_Bk_told_12 (by decide +kernel) ?_
  refine pb_and (hg _) hx hb d_Bk_told_15 ?_
  refine lv_bipush (v := nI 8) hx hb d_Bk_told_16 (by decide +kernel) ?_
  refine lv_ishl hx hb d_Bk_told_18 ?_
  refine lv_ior hx hb d_Bk_told_19 ?_
  refine lv_aload_n hx hb d_Bk_told_20 rfl (lv_at hl 0 rfl) ?_
  refine lv_bipush (v := nI 62) hx hb d_Bk_told_21 (by decide +kernel) ?_
  refine pb_bld C hP 0 rfl (by omega) (by decide) d_Bk_told_23 ?_
  refine lv_sipush (v := nI 255) hx hb d_Bk_told_24 (by decide +kernel) ?_
  refine pb_and (hg _) hx hb d_Bk_told_27 ?_
  refine lv_bipush (v := nI 16) hx hb d_Bk_told_28 (by decide +kernel) ?_
  refine lv_ishl hx hb d_Bk_told_30 ?_
  refine lv_ior hx hb d_Bk_told_31 ?_
  refine lv_aload_n hx hb d_Bk_told_32 rfl (lv_at hl 0 rfl) ?_
  refine lv_bipush (v := nI 63) hx hb d_Bk_told_33 (by decide +kernel) ?_
  refine pb_bld C hP 0 rfl (by omega) (by decide) d_Bk_told_35 ?_
  refine lv_sipush (v := nI 255) hx hb d_Bk_told_36 (by decide +kernel) ?_
  refine pb_and (hg _) hx hb d_Bk_told_39 ?_
  refine lv_bipush (v := nI 24) hx hb d_Bk_told_40 (by decide +kernel) ?_
  refine lv_ishl hx hb d_Bk_told_42 ?_
  refine lv_ior hx hb d_Bk_told_43 ?_
  exact kr _ _ _ d_Bk_told_44 rfl (pb_told_eq (hg _) (hg _) (hg _) (hg _))
set_option maxHeartbeats 4000000 in
set_option maxRecDepth 100000 in
theorem c_Bk_isRight (l : Launch) (D : va_G) (a : Nat → Nat) (ra : Nat → Nat) (k : Nat → ClassId) (n : Nat) (fs : Nat) (op : Nat) (tn : Int32) (mn : Nat) (sz : Nat) (fd : Nat → Nat) (pg : Nat → Nat) (en : Nat → Nat) (bl : Nat → Nat) (pl : Nat → Nat) (wa : Nat → Nat) (M : Nat → Nat → Nat) (b : Nat) (hn64 : n ≤ 64) (hM : ∀ x j, M x j < 256) (hbn : b < n) : Met l y_Bk_isRight (pb_ws y_Bk_isRight b_Bk_isRight 2 (some .boolean)) (pb_rm 2 0 0) (pb_Pr D k [.ref (a 0), .int (nI b)] (bk_W a ra k n fs op tn mn sz fd pg en bl pl wa M)) (vp_Si (fun r : Int32 => (r = nI 1 ∧ pb_right (M b)) ∨ (r = nI 0 ∧ ¬ (pb_right (M b))))) 0 0 (fun _ => False) := by
  refine pb_mkR R_Bk rfl (by decide) (Nat.le_of_ble_eq_true rfl) ?_
  intro p e R s m args below meth c Q ls C hP hl kr
  obtain ⟨hx, hb, hml, hown, hG, hkn, hR1, hR2⟩ := id C
  have hl : lv_has ls 2 [(0, .ref (a 0)), (1, .int (nI b))] := hl
  refine lv_aload_n hx hb d_Bk_isRight_0 rfl (lv_at hl 0 rfl) ?_
  refine bk_g_store C hP d_Bk_isRight_1 ?_
  refine lv_iload_n hx hb d_Bk_isRight_4 rfl (lv_at hl 1 rfl) ?_
  refine bk_row C hP (by omega) hn64 d_Bk_isRight_5 ?_
  refine pb_sR (As := [.ref (ra b)]) (rest := []) C (bk_one hP (by omega)) k_Bk_sumOf m_65 (c_Bk_sumOf l D k (ra b) (M b) (hM _)) rfl hl.1 ⟨by decide, by decide⟩ ⟨Nat.zero_le _, Nat.zero_le _⟩ rfl (Nat.le_of_ble_eq_true rfl) d_Bk_isRight_6 (fun r6 h6 => ?_)
  refine lv_aload_n hx hb d_Bk_isRight_9 rfl (lv_at hl 0 rfl) ?_
  refine bk_g_store C hP d_Bk_isRight_10 ?_
  refine lv_iload_n hx hb d_Bk_isRight_13 rfl (lv_at hl 1 rfl) ?_
  refine bk_row C hP (by omega) hn64 d_Bk_isRight_14 ?_
  refine pb_sR (As := [.ref (ra b)]) (rest := [.int r6]) C (bk_one hP (by omega)) k_Bk_told m_80 (c_Bk_told l D k (ra b) (M b) (hM _)) rfl hl.1 ⟨by decide, by decide⟩ ⟨Nat.zero_le _, Nat.zero_le _⟩ rfl (Nat.le_of_ble_eq_true rfl) d_Bk_isRight_15 (fun r15 h15 => ?_)
  refine lv_icmp_ne (tgt := 25) hx hb d_Bk_isRight_18 (by decide) (fun c_1 => ?_) (fun c_1 => ?_)
  · refine lv_iconst (v := nI 0) hx hb d_Bk_isRight_25 (by decide +kernel) ?_
    exact kr _ _ _ d_Bk_isRight_26 rfl (Or.inr ⟨rfl, fun q => c_1 (by rw [h6, h15]; exact (pb_right_iff (hM b)).mpr q)⟩)
  · refine lv_iconst (v := nI 1) hx hb d_Bk_isRight_21 (by decide +kernel) ?_
    refine lv_goto (tgt := 26) hx hb d_Bk_isRight_22 (by decide) ?_
    exact kr _ _ _ d_Bk_isRight_26 rfl (Or.inl ⟨rfl, (pb_right_iff (hM b)).mp (by rw [← h6, ← h15]; exact c_1)⟩)
set_option maxHeartbeats 4000000 in
set_option maxRecDepth 100000 in
theorem c_Bk_sizeOf (l : Launch) (D : va_G) (a : Nat → Nat) (ra : Nat → Nat) (k : Nat → ClassId) (n : Nat) (fs : Nat) (op : Nat) (tn : Int32) (mn : Nat) (sz : Nat) (fd : Nat → Nat) (pg : Nat → Nat) (en : Nat → Nat) (bl : Nat → Nat) (pl : Nat → Nat) (wa : Nat → Nat) (M : Nat → Nat → Nat) (b : Nat) (hn64 : n ≤ 64) (hM : ∀ x j, M x j < 256) (hbn : b < n) : Met l y_Bk_sizeOf (pb_ws y_Bk_sizeOf b_Bk_sizeOf 2 (some .int)) (pb_rm 0 0 0) (pb_Pr D k [.ref (a 0), .int (nI b)] (bk_W a ra k n fs op tn mn sz fd pg en bl pl wa M)) (vp_Si (fun r : Int32 => r = nI (M b 2))) 0 0 (fun _ => False) := by
  refine pb_mkR R_Bk rfl (by decide) (Nat.le_of_ble_eq_true rfl) ?_
  intro p e R s m args below meth c Q ls C hP hl kr
  obtain ⟨hx, hb, hml, hown, hG, hkn, hR1, hR2⟩ := id C
  have hl : lv_has ls 2 [(0, .ref (a 0)), (1, .int (nI b))] := hl
  refine lv_aload_n hx hb d_Bk_sizeOf_0 rfl (lv_at hl 0 rfl) ?_
  refine bk_g_store C hP d_Bk_sizeOf_1 ?_
  refine lv_iload_n hx hb d_Bk_sizeOf_4 rfl (lv_at hl 1 rfl) ?_
  refine bk_row C hP (by omega) hn64 d_Bk_sizeOf_5 ?_
  refine lv_iconst (v := nI 2) hx hb d_Bk_sizeOf_6 (by decide +kernel) ?_
  refine bk_rld C hP (by omega) (by omega) d_Bk_sizeOf_7 ?_
  refine lv_sipush (v := nI 255) hx hb d_Bk_sizeOf_8 (by decide +kernel) ?_
  refine pb_and (hM _ _) hx hb d_Bk_sizeOf_11 ?_
  exact kr _ _ _ d_Bk_sizeOf_12 rfl rfl
set_option maxHeartbeats 4000000 in
set_option maxRecDepth 100000 in
theorem c_Bk_nameOf (l : Launch) (D : va_G) (a : Nat → Nat) (ra : Nat → Nat) (k : Nat → ClassId) (n : Nat) (fs : Nat) (op : Nat) (tn : Int32) (mn : Nat) (sz : Nat) (fd : Nat → Nat) (pg : Nat → Nat) (en : Nat → Nat) (bl : Nat → Nat) (pl : Nat → Nat) (wa : Nat → Nat) (M : Nat → Nat → Nat) (b : Nat) (hn64 : n ≤ 64) (hM : ∀ x j, M x j < 256) (hbn : b < n) : Met l y_Bk_nameOf (pb_ws y_Bk_nameOf b_Bk_nameOf 2 (some .int)) (pb_rm 0 0 0) (pb_Pr D k [.ref (a 0), .int (nI b)] (bk_W a ra k n fs op tn mn sz fd pg en bl pl wa M)) (vp_Si (fun r : Int32 => r = nI (M b 0 + 256 * M b 1))) 0 0 (fun _ => False) := by
  refine pb_mkR R_Bk rfl (by decide) (Nat.le_of_ble_eq_true rfl) ?_
  intro p e R s m args below meth c Q ls C hP hl kr
  obtain ⟨hx, hb, hml, hown, hG, hkn, hR1, hR2⟩ := id C
  have hl : lv_has ls 2 [(0, .ref (a 0)), (1, .int (nI b))] := hl
  refine lv_aload_n hx hb d_Bk_nameOf_0 rfl (lv_at hl 0 rfl) ?_
  refine bk_g_store C hP d_Bk_nameOf_1 ?_
  refine lv_iload_n hx hb d_Bk_nameOf_4 rfl (lv_at hl 1 rfl) ?_
  refine bk_row C hP (by omega) hn64 d_Bk_nameOf_5 ?_
  refine lv_iconst (v := nI 0) hx hb d_Bk_nameOf_6 (by decide +kernel) ?_
  refine bk_rld C hP (by omega) (by omega) d_Bk_nameOf_7 ?_
  refine lv_sipush (v := nI 255) hx hb d_Bk_nameOf_8 (by decide +kernel) ?_
  refine pb_and (hM _ _) hx hb d_Bk_nameOf_11 ?_
  refine lv_aload_n hx hb d_Bk_nameOf_12 rfl (lv_at hl 0 rfl) ?_
  refine bk_g_store C hP d_Bk_nameOf_13 ?_
  refine lv_iload_n hx hb d_Bk_nameOf_16 rfl (lv_at hl 1 rfl) ?_
  refine bk_row C hP (by omega) hn64 d_Bk_nameOf_17 ?_
  refine lv_iconst (v := nI 1) hx hb d_Bk_nameOf_18 (by decide +kernel) ?_
  refine bk_rld C hP (by omega) (by omega) d_Bk_nameOf_19 ?_
  refine lv_sipush (v := nI 255) hx hb d_Bk_nameOf_20 (by decide +kernel) ?_
  refine pb_and (hM _ _) hx hb d_Bk_nameOf_23 ?_
  refine lv_bipush (v := nI 8) hx hb d_Bk_nameOf_24 (by decide +kernel) ?_
  refine lv_ishl hx hb d_Bk_nameOf_26 ?_
  refine lv_ior hx hb d_Bk_nameOf_27 ?_
  exact kr _ _ _ d_Bk_nameOf_28 rfl (pb_name (hM _ _) (hM _ _))
set_option maxHeartbeats 4000000 in
set_option maxRecDepth 100000 in
theorem c_Bk_isFed (l : Launch) (D : va_G) (a : Nat → Nat) (ra : Nat → Nat) (k : Nat → ClassId) (n : Nat) (fs : Nat) (op : Nat) (tn : Int32) (mn : Nat) (sz : Nat) (fd : Nat → Nat) (pg : Nat → Nat) (en : Nat → Nat) (bl : Nat → Nat) (pl : Nat → Nat) (wa : Nat → Nat) (M : Nat → Nat → Nat) (b : Nat) (hn64 : n ≤ 64) (hM : ∀ x j, M x j < 256) (hbn : b < n) (hfs : fs ≤ 48) (hfd : ∀ j, fd j < 256) : Met l y_Bk_isFed (pb_ws y_Bk_isFed b_Bk_isFed 3 (some .boolean)) (pb_rm 1 0 0) (pb_Pr D k [.ref (a 0), .int (nI b)] (bk_W a ra k n fs op tn mn sz fd pg en bl pl wa M)) (vp_Si (fun r : Int32 => (r = nI 1 ∧ pb_same M fs fd b) ∨ (r = nI 0 ∧ ¬ (pb_same M fs fd b)))) 0 0 (fun _ => False) := by
  refine pb_mkR R_Bk rfl (by decide) (Nat.le_of_ble_eq_true rfl) ?_
  intro p e R s m args below meth c Q ls C hP hl kr
  obtain ⟨hx, hb, hml, hown, hG, hkn, hR1, hR2⟩ := id C
  have hl : lv_has ls 3 [(0, .ref (a 0)), (1, .int (nI b))] := hl
  refine lv_aload_n hx hb d_Bk_isFed_0 rfl (lv_at hl 0 rfl) ?_
  refine lv_iload_n hx hb d_Bk_isFed_1 rfl (lv_at hl 1 rfl) ?_
  refine pb_vR (As := [.int (nI b)]) (rest := []) C hP k_Bk_sizeOf m_91 (c_Bk_sizeOf l D a ra k n fs op tn mn sz fd pg en bl pl wa M b hn64 hM (by omega)) rfl hl.1 0 0 rfl rfl rfl ⟨by decide, by decide⟩ ⟨Nat.zero_le _, Nat.zero_le _⟩ rfl (Nat.le_of_ble_eq_true rfl) d_Bk_isFed_2 (fun r2 h2 => ?_)
  subst h2
  refine lv_aload_n hx hb d_Bk_isFed_5 rfl (lv_at hl 0 rfl) ?_
  refine bk_g_fedSize C hP d_Bk_isFed_6 ?_
  refine pb_eq (tgt := 14) (by have := hM b 2; omega) (by omega) hx hb d_Bk_isFed_9 (by decide) (fun c_1 => ?_) (fun c_1 => ?_)
  · refine lv_iconst (v := nI 0) hx hb d_Bk_isFed_14 (by decide +kernel) ?_
    refine lv_istore_n (lv' := [(2, .int (nI 0)), (0, .ref (a 0)), (1, .int (nI b))]) hx hb d_Bk_isFed_15 rfl hl (by decide) rfl (fun ls hl => ?_)
    have loop16 : ∀ (fu : Nat) (i : Nat) (ls : Array Slot), (i ≤ fs) → (fs + 1 ≤ i + fu) → (∀ j, j < i → M b (3 + j) = fd j) → lv_has ls 3 [(2, .int (nI i)), (0, .ref (a 0)), (1, .int (nI b))] → W p l e R s m args below meth c s.heap [] 0 0 Q (F0 m 16 ls []) := by
      intro fu
      induction fu with
      | zero =>
        intro i ls hi hn hs
        exfalso
        omega
      | succ fu ih =>
        intro i ls hi hn hs hl
        refine lv_iload_n hx hb d_Bk_isFed_16 rfl (lv_at hl 0 rfl) ?_
        refine lv_aload_n hx hb d_Bk_isFed_17 rfl (lv_at hl 1 rfl) ?_
        refine bk_g_fedSize C hP d_Bk_isFed_18 ?_
        refine pb_ge (tgt := 51) (by omega) (by omega) hx hb d_Bk_isFed_21 (by decide) (fun c_2 => ?_) (fun c_2 => ?_)
        · refine lv_iconst (v := nI 1) hx hb d_Bk_isFed_51 (by decide +kernel) ?_
          exact kr _ _ _ d_Bk_isFed_52 rfl (Or.inl ⟨rfl, ⟨c_1, fun j hj => hs j (by omega)⟩⟩)
        · refine lv_aload_n hx hb d_Bk_isFed_24 rfl (lv_at hl 1 rfl) ?_
          refine bk_g_store C hP d_Bk_isFed_25 ?_
          refine lv_iload_n hx hb d_Bk_isFed_28 rfl (lv_at hl 2 rfl) ?_
          refine bk_row C hP (by omega) hn64 d_Bk_isFed_29 ?_
          refine lv_iconst (v := nI 3) hx hb d_Bk_isFed_30 (by decide +kernel) ?_
          refine lv_iload_n hx hb d_Bk_isFed_31 rfl (lv_at hl 0 rfl) ?_
          refine pb_add hx hb d_Bk_isFed_32 ?_
          refine bk_rld C hP (by omega) (by omega) d_Bk_isFed_33 ?_
          refine lv_aload_n hx hb d_Bk_isFed_34 rfl (lv_at hl 1 rfl) ?_
          refine bk_g_fed C hP d_Bk_isFed_35 ?_
          refine lv_iload_n hx hb d_Bk_isFed_38 rfl (lv_at hl 0 rfl) ?_
          refine bk_l_fed C hP (by omega) d_Bk_isFed_39 ?_
          refine lv_icmp_eq (tgt := 45) hx hb d_Bk_isFed_40 (by decide) (fun c_3 => ?_) (fun c_3 => ?_)
          · refine lv_iinc (v := nI (i + 1)) (lv' := [(2, .int (nI (i + 1))), (0, .ref (a 0)), (1, .int (nI b))]) hx hb d_Bk_isFed_45 hl (k := 0) rfl (pb_i1 _) (by decide) rfl (fun ls hl => ?_)
            refine lv_goto (tgt := 16) hx hb d_Bk_isFed_48 (by decide) ?_
            exact ih (i + 1) _ (by omega) (by omega) (fun j hj => by rcases Nat.lt_succ_iff_lt_or_eq.mp hj with q | q; exact hs j q; subst q; exact pb_sb_inj _ (hM _ _) _ (hfd _) c_3) (lv_sub hl [0, 1, 2] rfl)
          · refine lv_iconst (v := nI 0) hx hb d_Bk_isFed_43 (by decide +kernel) ?_
            exact kr _ _ _ d_Bk_isFed_44 rfl (Or.inr ⟨rfl, fun q => c_3 (by rw [q.2 i (by omega)])⟩)
    exact loop16 (fs + 1) 0 _ (by omega) (by omega) (fun j hj => absurd hj (Nat.not_lt_zero j)) (lv_sub hl [0, 1, 2] rfl)
  · refine lv_iconst (v := nI 0) hx hb d_Bk_isFed_12 (by decide +kernel) ?_
    exact kr _ _ _ d_Bk_isFed_13 rfl (Or.inr ⟨rfl, fun q => c_1 q.1⟩)
set_option maxHeartbeats 4000000 in
set_option maxRecDepth 100000 in
theorem c_Bk_isUsed (l : Launch) (D : va_G) (a : Nat → Nat) (ra : Nat → Nat) (k : Nat → ClassId) (n : Nat) (fs : Nat) (op : Nat) (tn : Int32) (mn : Nat) (sz : Nat) (fd : Nat → Nat) (pg : Nat → Nat) (en : Nat → Nat) (bl : Nat → Nat) (pl : Nat → Nat) (wa : Nat → Nat) (M : Nat → Nat → Nat) (b : Nat) (hmn : mn ≤ 40) (hen : ∀ q, q < mn → en q < 64) (hb6 : b < 256) : Met l y_Bk_isUsed (pb_ws y_Bk_isUsed b_Bk_isUsed 3 (some .boolean)) (pb_rm 0 0 0) (pb_Pr D k [.ref (a 0), .int (nI b)] (bk_W a ra k n fs op tn mn sz fd pg en bl pl wa M)) (vp_Si (fun r : Int32 => (r = nI 1 ∧ pb_used mn en b) ∨ (r = nI 0 ∧ ¬ (pb_used mn en b)))) 0 0 (fun _ => False) := by
  refine pb_mkR R_Bk rfl (by decide) (Nat.le_of_ble_eq_true rfl) ?_
  intro p e R s m args below meth c Q ls C hP hl kr
  obtain ⟨hx, hb, hml, hown, hG, hkn, hR1, hR2⟩ := id C
  have hl : lv_has ls 3 [(0, .ref (a 0)), (1, .int (nI b))] := hl
  refine lv_iconst (v := nI 0) hx hb d_Bk_isUsed_0 (by decide +kernel) ?_
  refine lv_istore_n (lv' := [(2, .int (nI 0)), (0, .ref (a 0)), (1, .int (nI b))]) hx hb d_Bk_isUsed_1 rfl hl (by decide) rfl (fun ls hl => ?_)
  have loop2 : ∀ (fu : Nat) (i : Nat) (ls : Array Slot), (i ≤ mn) → (mn + 1 ≤ i + fu) → (∀ j, j < i → en j ≠ b) → lv_has ls 3 [(2, .int (nI i)), (0, .ref (a 0)), (1, .int (nI b))] → W p l e R s m args below meth c s.heap [] 0 0 Q (F0 m 2 ls []) := by
    intro fu
    induction fu with
    | zero =>
      intro i ls hi hn hs
      exfalso
      omega
    | succ fu ih =>
      intro i ls hi hn hs hl
      refine lv_iload_n hx hb d_Bk_isUsed_2 rfl (lv_at hl 0 rfl) ?_
      refine lv_aload_n hx hb d_Bk_isUsed_3 rfl (lv_at hl 1 rfl) ?_
      refine bk_g_many C hP d_Bk_isUsed_4 ?_
      refine pb_ge (tgt := 28) (by omega) (by omega) hx hb d_Bk_isUsed_7 (by decide) (fun c_1 => ?_) (fun c_1 => ?_)
      · refine lv_iconst (v := nI 0) hx hb d_Bk_isUsed_28 (by decide +kernel) ?_
        exact kr _ _ _ d_Bk_isUsed_29 rfl (Or.inr ⟨rfl, fun ⟨j, hj, hq⟩ => hs j (by omega) hq⟩)
      · refine lv_aload_n hx hb d_Bk_isUsed_10 rfl (lv_at hl 1 rfl) ?_
        refine bk_g_entries C hP d_Bk_isUsed_11 ?_
        refine lv_iload_n hx hb d_Bk_isUsed_14 rfl (lv_at hl 0 rfl) ?_
        refine bk_l_entries C hP (by omega) d_Bk_isUsed_15 ?_
        refine lv_iload_n hx hb d_Bk_isUsed_16 rfl (lv_at hl 2 rfl) ?_
        refine pb_ne (tgt := 22) (by have := hen i (by omega); omega) (by omega) hx hb d_Bk_isUsed_17 (by decide) (fun c_2 => ?_) (fun c_2 => ?_)
        · refine lv_iinc (v := nI (i + 1)) (lv' := [(2, .int (nI (i + 1))), (0, .ref (a 0)), (1, .int (nI b))]) hx hb d_Bk_isUsed_22 hl (k := 0) rfl (pb_i1 _) (by decide) rfl (fun ls hl => ?_)
          refine lv_goto (tgt := 2) hx hb d_Bk_isUsed_25 (by decide) ?_
          exact ih (i + 1) _ (by omega) (by omega) (fun j hj => by rcases Nat.lt_succ_iff_lt_or_eq.mp hj with q | q; exact hs j q; subst q; exact c_2) (lv_sub hl [0, 1, 2] rfl)
        · refine lv_iconst (v := nI 1) hx hb d_Bk_isUsed_20 (by decide +kernel) ?_
          exact kr _ _ _ d_Bk_isUsed_21 rfl (Or.inl ⟨rfl, ⟨i, by omega, c_2⟩⟩)
  exact loop2 (mn + 1) 0 _ (by omega) (by omega) (fun j hj => absurd hj (Nat.not_lt_zero j)) (lv_sub hl [0, 1, 2] rfl)
set_option maxHeartbeats 4000000 in
set_option maxRecDepth 100000 in
theorem c_Bk_freeBlock (l : Launch) (D : va_G) (a : Nat → Nat) (ra : Nat → Nat) (k : Nat → ClassId) (n : Nat) (fs : Nat) (op : Nat) (tn : Int32) (mn : Nat) (sz : Nat) (fd : Nat → Nat) (pg : Nat → Nat) (en : Nat → Nat) (bl : Nat → Nat) (pl : Nat → Nat) (wa : Nat → Nat) (M : Nat → Nat → Nat)  (hn64 : n ≤ 64) (hn4 : 4 ≤ n) (hmn : mn ≤ 40) (hen : ∀ q, q < mn → en q < 64) : Met l y_Bk_freeBlock (pb_ws y_Bk_freeBlock b_Bk_freeBlock 2 (some .int)) (pb_rm 1 0 0) (pb_Pr D k [.ref (a 0)] (bk_W a ra k n fs op tn mn sz fd pg en bl pl wa M)) (vp_Si (fun r : Int32 => (∃ b, r = nI b ∧ pb_free n mn en b) ∨ (r = -1 ∧ pb_full n mn en))) 0 0 (fun _ => False) := by
  refine pb_mkR R_Bk rfl (by decide) (Nat.le_of_ble_eq_true rfl) ?_
  intro p e R s m args below meth c Q ls C hP hl kr
  obtain ⟨hx, hb, hml, hown, hG, hkn, hR1, hR2⟩ := id C
  have hl : lv_has ls 2 [(0, .ref (a 0))] := hl
  refine lv_iconst (v := nI 3) hx hb d_Bk_freeBlock_0 (by decide +kernel) ?_
  refine lv_istore_n (lv' := [(1, .int (nI 3)), (0, .ref (a 0))]) hx hb d_Bk_freeBlock_1 rfl hl (by decide) rfl (fun ls hl => ?_)
  have loop2 : ∀ (fu : Nat) (i : Nat) (ls : Array Slot), (3 ≤ i) → (i ≤ n) → (n + 1 ≤ i + fu) → (∀ b', 3 ≤ b' → b' < i → pb_used mn en b') → lv_has ls 2 [(1, .int (nI i)), (0, .ref (a 0))] → W p l e R s m args below meth c s.heap [] 0 0 Q (F0 m 2 ls []) := by
    intro fu
    induction fu with
    | zero =>
      intro i ls h3 hi hn hs
      exfalso
      omega
    | succ fu ih =>
      intro i ls h3 hi hn hs hl
      refine lv_iload_n hx hb d_Bk_freeBlock_2 rfl (lv_at hl 0 rfl) ?_
      refine lv_aload_n hx hb d_Bk_freeBlock_3 rfl (lv_at hl 1 rfl) ?_
      refine bk_g_store C hP d_Bk_freeBlock_4 ?_
      refine bk_len C hP d_Bk_freeBlock_7 ?_
      refine pb_ge (tgt := 27) (by omega) (by omega) hx hb d_Bk_freeBlock_8 (by decide) (fun c_1 => ?_) (fun c_1 => ?_)
      · refine lv_iconst (v := -1) hx hb d_Bk_freeBlock_27 (by decide +kernel) ?_
        exact kr _ _ _ d_Bk_freeBlock_28 rfl (Or.inr ⟨rfl, fun b' g3 gn => hs b' g3 (by omega)⟩)
      · refine lv_aload_n hx hb d_Bk_freeBlock_11 rfl (lv_at hl 1 rfl) ?_
        refine lv_iload_n hx hb d_Bk_freeBlock_12 rfl (lv_at hl 0 rfl) ?_
        refine pb_vR (As := [.int (nI i)]) (rest := []) C hP k_Bk_isUsed m_87 (c_Bk_isUsed l D a ra k n fs op tn mn sz fd pg en bl pl wa M i hmn hen (by omega)) rfl hl.1 0 0 rfl rfl rfl ⟨by decide, by decide⟩ ⟨Nat.zero_le _, Nat.zero_le _⟩ rfl (Nat.le_of_ble_eq_true rfl) d_Bk_freeBlock_13 (fun r13 h13 => ?_)
        rcases h13 with ⟨rfl, h13⟩ | ⟨rfl, h13⟩
        · refine pb_nz (tgt := 21) (by decide) hx hb d_Bk_freeBlock_16 (by decide) (fun _ => ?_) (fun c_2 => absurd c_2 (by decide))
          refine lv_iinc (v := nI (i + 1)) (lv' := [(1, .int (nI (i + 1))), (0, .ref (a 0))]) hx hb d_Bk_freeBlock_21 hl (k := 0) rfl (pb_i1 _) (by decide) rfl (fun ls hl => ?_)
          refine lv_goto (tgt := 2) hx hb d_Bk_freeBlock_24 (by decide) ?_
          exact ih (i + 1) _ (by omega) (by omega) (by omega) (fun j h3 hj => by rcases Nat.lt_succ_iff_lt_or_eq.mp hj with q | q; exact hs j h3 q; subst q; exact h13) (lv_sub hl [0, 1] rfl)
        · refine pb_nz (tgt := 21) (by decide) hx hb d_Bk_freeBlock_16 (by decide) (fun c_2 => absurd c_2 (by decide)) (fun _ => ?_)
          refine lv_iload_n hx hb d_Bk_freeBlock_19 rfl (lv_at hl 0 rfl) ?_
          exact kr _ _ _ d_Bk_freeBlock_20 rfl (Or.inl ⟨i, rfl, h3, by omega, h13, hs⟩)
  exact loop2 (n + 1) 3 _ (by omega) (by omega) (by omega) (fun j h3 hj => by omega) (lv_sub hl [0, 1] rfl)
end
section
-- ===== the words of the book's calls: what both sides answer and do =====
theorem pb_cast {D : va_G} {A : Nat → Prop} {H0 H : Heap} {ws ws' : va_W} {locs : List Loc} (e : ws = ws') (h : pb_W D A H0 ws H locs) : pb_W D A H0 ws' H locs := e ▸ h
theorem pb_m_toInt {j : Nat} (hj : j < 2 ^ 31) : (pb_m j).toInt = (j : Int) - 1 := by
  rcases Nat.eq_zero_or_pos j with h | h
  · subst h; decide +kernel
  · obtain ⟨q, rfl⟩ : ∃ q, j = q + 1 := ⟨j - 1, by omega⟩
    rw [pb_m_s, nI_toInt (by omega)]
    omega
theorem pb_m_lt {j q : Nat} (hj : j < 2 ^ 31) (hq : q < 2 ^ 31) : pb_m j < nI q ↔ j ≤ q := by
  rw [Int32.lt_iff_toInt_lt, pb_m_toInt hj, nI_toInt hq]
  omega
theorem pb_m_neg {j : Nat} (hj : j < 2 ^ 31) : pb_m j < 0 ↔ j = 0 := by
  rw [Int32.lt_iff_toInt_lt, pb_m_toInt hj, Int32.toInt_zero]
  omega
theorem pb_ne_m1 {q : Nat} (hq : q < 2 ^ 31) : nI q ≠ -1 := by
  intro h
  have h1 := nI_toInt hq
  rw [h] at h1
  have h2 : (-1 : Int32).toInt = -1 := by decide +kernel
  omega
theorem pb_le_of {x y : Int32} (h : ¬ y < x) : x ≤ y := Int32.not_lt.mp h
/-- an int between 0 and v -/
theorem pb_num {x : Int32} {v : Nat} (hv : v < 2 ^ 31) (h0 : ¬ x < 0) (h1 : ¬ nI v < x) : ∃ j, j ≤ v ∧ x = nI j := nI_of2 (nI_toInt hv) h0 (pb_le_of h1)
theorem pb_num_lt {x : Int32} {v : Nat} (hv : v < 2 ^ 31) (h0 : ¬ x < 0) (h1 : x < nI v) : ∃ j, j < v ∧ x = nI j := by
  obtain ⟨j, hj, rfl⟩ := nI_of h0
  exact ⟨j, (nI_ltI hj hv).mp h1, rfl⟩
def pb_inv (n t mn sz : Nat) (en bl pl wa : Nat → Nat) : Prop := (t = 1 ∨ t = 2) ∧ mn ≤ 40 ∧ (∀ q, q < mn → 3 ≤ en q ∧ en q < n) ∧ sz ≤ 129 ∧ ∀ q, q < sz → bl q < n ∧ pl q < 64 ∧ wa q < 256
def pb_back (bl pl wa : Nat → Nat) (lo : Nat) : Nat → (Nat → Nat → Nat) → Nat → Nat → Nat
  | 0, M => M
  | d + 1, M => pb_back bl pl wa lo d (pb_put1 M (bl (lo + d)) (pl (lo + d)) (wa (lo + d)))
theorem pb_back_s {bl pl wa : Nat → Nat} {lo j : Nat} {M : Nat → Nat → Nat} (h : lo ≤ j) : pb_back bl pl wa lo (j + 1 - lo) M = pb_back bl pl wa lo (j - lo) (pb_put1 M (bl j) (pl j) (wa j)) := by
  rw [show j + 1 - lo = (j - lo) + 1 by omega, pb_back, show lo + (j - lo) = j by omega]
/-- feed: (0, _) nothing; (1, v) v is fed -/
def pb_feed (fs : Nat) (x : Int32) (r : Int32) (z : Nat × Nat) : Prop := ((x < 0 ∨ nI 255 < x ∨ fs = 48) ∧ r = nI 0 ∧ z = (0, 0)) ∨ (∃ v, v < 256 ∧ x = nI v ∧ fs < 48 ∧ r = nI 1 ∧ z = (1, v))
/-- put: (0, _) nothing; (1, _) the row was there; (2, v, b) a new entry v in block b -/
def pb_puts (n op mn fs : Nat) (fd en : Nat → Nat) (M : Nat → Nat → Nat) (x : Int32) (r : Int32) (z : Nat × Nat × Nat) : Prop :=
  ((op = 0 ∨ x < 0 ∨ nI 65535 < x ∨ fs = 0) ∧ r = -1 ∧ z = (0, 0, 0)) ∨
  (op = 1 ∧ fs ≠ 0 ∧ ∃ v, v < 65536 ∧ x = nI v ∧
    ((∃ q, q < mn ∧ pb_same M fs fd (en q) ∧ (∀ q', q' < q → ¬ pb_same M fs fd (en q')) ∧ r = nI q ∧ z = (1, 0, 0)) ∨
     ((∀ q, q < mn → ¬ pb_same M fs fd (en q)) ∧ (mn = 40 ∨ pb_full n mn en) ∧ r = -1 ∧ z = (0, 0, 0)) ∨
     ((∀ q, q < mn → ¬ pb_same M fs fd (en q)) ∧ mn < 40 ∧ ∃ b, pb_free n mn en b ∧ r = nI mn ∧ z = (2, v, b))))
/-- the store behind a new root g -/
def pb_turnM (M : Nat → Nat → Nat) (t : Nat) (g : Nat → Nat) : Nat → Nat → Nat := pb_put1 (pb_rowf M (3 - t) 64 g) 0 0 (3 - t)
def pb_turnw (w : Nat → Nat) (M : Nat → Nat → Nat) (sz t : Nat) (g : Nat → Nat) : Nat → Nat := va_up (pb_fill w sz 64 (fun j => M (3 - t) j)) (sz + 64) (pb_rowf M (3 - t) 64 g 0 0)
def pb_turnb (w : Nat → Nat) (sz t : Nat) : Nat → Nat := va_up (pb_fill w sz 64 (fun _ => 3 - t)) (sz + 64) 0
def pb_turnp (w : Nat → Nat) (sz : Nat) : Nat → Nat := va_up (pb_fill w sz 64 (fun j => j)) (sz + 64) 0
/-- the root's page behind a put -/
def pb_pr (mn : Nat) (en : Nat → Nat) (b : Nat) : Nat → Nat := pb_seal (pb_root (mn + 1) (va_up en mn b) 64)
def pb_pe (v fs : Nat) (fd : Nat → Nat) : Nat → Nat := pb_seal (pb_ent v fs fd)
/-- drop: (0, _) nothing; (1, q) entry q goes -/
def pb_drops (op mn : Nat) (x : Int32) (r : Int32) (z : Nat × Nat) : Prop := ((op = 0 ∨ x < 0 ∨ nI mn ≤ x) ∧ r = nI 0 ∧ z = (0, 0)) ∨ (op = 1 ∧ ∃ q, q < mn ∧ x = nI q ∧ r = nI 1 ∧ z = (1, q))
def pb_gone (en : Nat → Nat) (q mn : Nat) : Nat → Nat := pb_fill en q (mn - 1 - q) (fun j => en (q + j + 1))
/-- crash: (0, _) nothing; (1, q) taken back to q -/
def pb_crashs (op sz : Nat) (x : Int32) (r : Int32) (z : Nat × Nat) : Prop := ((op = 0 ∨ sz = 0 ∨ x < 0 ∨ nI sz < x) ∧ r = nI 0 ∧ z = (0, 0)) ∨ (op = 1 ∧ sz ≠ 0 ∧ ∃ q, q ≤ sz ∧ x = nI q ∧ r = nI 1 ∧ z = (1, q))
def pb_pokes (n : Nat) (x y w : Int32) (r : Int32) (z : Nat × Nat × Nat × Nat) : Prop := ((x < 0 ∨ nI n ≤ x ∨ y < 0 ∨ nI 64 ≤ y ∨ w < nI 1 ∨ nI 255 < w) ∧ r = nI 0 ∧ z = (0, 0, 0, 0)) ∨ (∃ b i v, b < n ∧ i < 64 ∧ 1 ≤ v ∧ v < 256 ∧ x = nI b ∧ y = nI i ∧ w = nI v ∧ r = nI 1 ∧ z = (1, b, i, v))
/-- find, entry, badAt, free, root -/
def pb_finds (op mn : Nat) (en : Nat → Nat) (M : Nat → Nat → Nat) (x y : Int32) (r : Int32) : Prop :=
  (op = 0 ∧ r = -1) ∨ (op = 1 ∧ (∀ q, q < mn → nI (M (en q) 0 + 256 * M (en q) 1) ≠ x) ∧ r = -1) ∨
  (op = 1 ∧ ∃ q, q < mn ∧ nI (M (en q) 0 + 256 * M (en q) 1) = x ∧ (∀ q', q < q' → q' < mn → nI (M (en q') 0 + 256 * M (en q') 1) ≠ x) ∧
    (((y < 0 ∨ nI (M (en q) 2) ≤ y ∨ nI 48 ≤ y) ∧ r = -1) ∨ (∃ i, i < 48 ∧ i < M (en q) 2 ∧ y = nI i ∧ r = nI (M (en q) (3 + i)))))
def pb_entrys (op mn : Nat) (en : Nat → Nat) (M : Nat → Nat → Nat) (x y : Int32) (r : Int32) : Prop :=
  ((op = 0 ∨ x < 0 ∨ nI mn ≤ x) ∧ r = -1) ∨ (op = 1 ∧ ∃ q, q < mn ∧ x = nI q ∧
    ((y = nI 0 ∧ r = nI (M (en q) 0 + 256 * M (en q) 1)) ∨ (y = nI 1 ∧ r = nI (en q)) ∨ (y = nI 2 ∧ r = nI (M (en q) 2)) ∨ (y ≠ nI 0 ∧ y ≠ nI 1 ∧ y ≠ nI 2 ∧ r = -1)))
def pb_bads (n op t mn : Nat) (en : Nat → Nat) (M : Nat → Nat → Nat) (r : Int32) : Prop :=
  (op = 0 ∧ r = -1) ∨ (op = 1 ∧ ¬ pb_right (M t) ∧ r = nI t) ∨
  (op = 1 ∧ pb_right (M t) ∧ ∃ b, 3 ≤ b ∧ b < n ∧ pb_used mn en b ∧ ¬ pb_right (M b) ∧ (∀ b', 3 ≤ b' → b' < b → ¬ (pb_used mn en b' ∧ ¬ pb_right (M b'))) ∧ r = nI b) ∨
  (op = 1 ∧ pb_right (M t) ∧ (∀ b', 3 ≤ b' → b' < n → ¬ (pb_used mn en b' ∧ ¬ pb_right (M b'))) ∧ r = -1)
/-- a root that can be read, an entry that is whole -/
def pb_rok (n : Nat) (f : Nat → Nat) : Prop := f 0 ≤ 40 ∧ ∀ q, q < f 0 → 3 ≤ f (1 + q) ∧ f (1 + q) < n ∧ ∀ q', q' < q → f (1 + q') ≠ f (1 + q)
def pb_eok (f : Nat → Nat) : Prop := pb_right f ∧ 1 ≤ f 2 ∧ f 2 ≤ 48
/-- the least block of a broken entry among the first q -/
def pb_leastbad (M : Nat → Nat → Nat) (t q w : Nat) : Prop := (∃ e, e < q ∧ M t (1 + e) = w ∧ ¬ pb_eok (M w)) ∧ ∀ e, e < q → ¬ pb_eok (M (M t (1 + e))) → w ≤ M t (1 + e)
/-- reopen: 0 it stays shut, 1 it is open -/
def pb_reops (n : Nat) (M : Nat → Nat → Nat) (r : Int32) (z : Nat) : Prop :=
  (M 0 0 ≠ 1 ∧ M 0 0 ≠ 2 ∧ r = -1 ∧ z = 0) ∨
  ((M 0 0 = 1 ∨ M 0 0 = 2) ∧ ¬ (pb_right (M (M 0 0)) ∧ pb_rok n (M (M 0 0))) ∧ r = -1 - nI (M 0 0) ∧ z = 0) ∨
  ((M 0 0 = 1 ∨ M 0 0 = 2) ∧ pb_right (M (M 0 0)) ∧ pb_rok n (M (M 0 0)) ∧ (∃ w, pb_leastbad M (M 0 0) (M (M 0 0) 0) w ∧ r = -1 - nI w) ∧ z = 0) ∨
  ((M 0 0 = 1 ∨ M 0 0 = 2) ∧ pb_right (M (M 0 0)) ∧ pb_rok n (M (M 0 0)) ∧ (∀ e, e < M (M 0 0) 0 → pb_eok (M (M (M 0 0) (1 + e)))) ∧ r = nI (M (M 0 0) 0) ∧ z = 1)
end
section
-- ===== contracts of the pen, and of the book's methods that write (by gen/m2.py) =====
set_option maxHeartbeats 4000000 in
set_option maxRecDepth 100000 in
theorem c_Pn_write (l : Launch) (D : va_G) (a : Nat → Nat) (ra : Nat → Nat) (k : Nat → ClassId) (n : Nat) (fs : Nat) (op : Nat) (tn : Int32) (mn : Nat) (sz : Nat) (fd : Nat → Nat) (pg : Nat → Nat) (en : Nat → Nat) (bl : Nat → Nat) (pl : Nat → Nat) (wa : Nat → Nat) (M : Nat → Nat → Nat) (b i v : Nat) (sz0 : Nat) (hn64 : n ≤ 64) (hbn : b < n) (hi : i < 64) (hsz : sz < 129) : Met l y_Pn_write (pb_ws y_Pn_write b_Pn_write 4 none) (pb_rm 0 0 0) (pb_P D k [.ref (a 1), .int (nI b), .int (nI i), .int (sb_b v)] (bk_W a ra k n fs op tn mn sz fd pg en bl pl wa M) sz0) (pb_QV D (bk_W a ra k n fs op tn mn sz fd pg en bl pl wa M) sz0 (fun (u : Unit) => True) (fun (u : Unit) => bk_W a ra k n fs op tn mn (sz + 1) fd pg en (va_up bl sz b) (va_up pl sz i) (va_up wa sz (M b i)) (va_up M b (va_up (M b) i v)))) 0 0 (va_A (bk_W a ra k n fs op tn mn sz fd pg en bl pl wa M) sz0) := by
  refine pb_mkV R_Pn rfl (by decide) (Nat.le_of_ble_eq_true rfl) ?_
  intro p e R s m args below meth c Q A ls C hRc hA hw hl hini kr
  obtain ⟨H, hH⟩ : ∃ H : Heap, H = s.heap := ⟨_, rfl⟩
  obtain ⟨locs, hL⟩ : ∃ L : List Loc, L = [] := ⟨_, rfl⟩
  have hw : pb_W D A s.heap (bk_W a ra k n fs op tn mn sz fd pg en bl pl wa M) H locs := by rw [hH, hL]; exact hw
  rw [show W p l e R s m args below meth c s.heap [] 0 0 Q (F0 m 0 ls []) = W p l e R s m args below meth c H locs 0 0 Q (F0 m 0 ls []) by rw [hH, hL]]
  clear hH hL
  obtain ⟨hx, hb, hml, hown, hG, hkn, hR1, hR2⟩ := id C
  have hl : lv_has ls 4 [(0, .ref (a 1)), (1, .int (nI b)), (2, .int (nI i)), (3, .int (sb_b v))] := hl
  refine lv_aload_n hx hb d_Pn_write_0 rfl (lv_at hl 0 rfl) ?_
  refine pn_g_blocks C hw.1 d_Pn_write_1 ?_
  refine lv_aload_n hx hb d_Pn_write_4 rfl (lv_at hl 0 rfl) ?_
  refine pn_g_size C hw.1 d_Pn_write_5 ?_
  refine lv_iload_n hx hb d_Pn_write_8 rfl (lv_at hl 1 rfl) ?_
  refine bk_s_blocks C hw (by omega) d_Pn_write_9 (fun H locs hw => ?_)
  refine lv_aload_n hx hb d_Pn_write_10 rfl (lv_at hl 0 rfl) ?_
  refine pn_g_places C hw.1 d_Pn_write_11 ?_
  refine lv_aload_n hx hb d_Pn_write_14 rfl (lv_at hl 0 rfl) ?_
  refine pn_g_size C hw.1 d_Pn_write_15 ?_
  refine lv_iload_n hx hb d_Pn_write_18 rfl (lv_at hl 2 rfl) ?_
  refine bk_s_places C hw (by omega) d_Pn_write_19 (fun H locs hw => ?_)
  refine lv_aload_n hx hb d_Pn_write_20 rfl (lv_at hl 0 rfl) ?_
  refine pn_g_was C hw.1 d_Pn_write_21 ?_
  refine lv_aload_n hx hb d_Pn_write_24 rfl (lv_at hl 0 rfl) ?_
  refine pn_g_size C hw.1 d_Pn_write_25 ?_
  refine lv_aload_n hx hb d_Pn_write_28 rfl (lv_at hl 0 rfl) ?_
  refine pn_g_store C hw.1 d_Pn_write_29 ?_
  refine lv_iload_n hx hb d_Pn_write_32 rfl (lv_at hl 1 rfl) ?_
  refine bk_row C hw.1 (by omega) hn64 d_Pn_write_33 ?_
  refine lv_iload_n hx hb d_Pn_write_34 rfl (lv_at hl 2 rfl) ?_
  refine bk_rld C hw.1 (by omega) (by omega) d_Pn_write_35 ?_
  refine bk_s_was C hw (by omega) (pb_i2b _) d_Pn_write_36 (fun H locs hw => ?_)
  refine lv_aload_n hx hb d_Pn_write_37 rfl (lv_at hl 0 rfl) ?_
  refine lv_dup hx hb d_Pn_write_38 rfl ?_
  refine pn_g_size C hw.1 d_Pn_write_39 ?_
  refine lv_iconst (v := nI 1) hx hb d_Pn_write_42 (by decide +kernel) ?_
  refine pb_add hx hb d_Pn_write_43 ?_
  refine pn_p_size C hw d_Pn_write_44 (fun H locs hw => ?_)
  refine lv_aload_n hx hb d_Pn_write_47 rfl (lv_at hl 0 rfl) ?_
  refine pn_g_store C hw.1 d_Pn_write_48 ?_
  refine lv_iload_n hx hb d_Pn_write_51 rfl (lv_at hl 1 rfl) ?_
  refine bk_row C hw.1 (by omega) hn64 d_Pn_write_52 ?_
  refine lv_iload_n hx hb d_Pn_write_53 rfl (lv_at hl 2 rfl) ?_
  refine lv_iload_n hx hb d_Pn_write_54 rfl (lv_at hl 3 rfl) ?_
  refine bk_rst C hw (by omega) (by omega) (pb_i2b _) d_Pn_write_55 (fun H locs hw => ?_)
  exact kr _ _ _ _ () d_Pn_write_56 hw trivial
set_option maxHeartbeats 4000000 in
set_option maxRecDepth 100000 in
theorem c_Pn_writeAll (l : Launch) (D : va_G) (a : Nat → Nat) (ra : Nat → Nat) (k : Nat → ClassId) (n : Nat) (fs : Nat) (op : Nat) (tn : Int32) (mn : Nat) (sz : Nat) (fd : Nat → Nat) (pg : Nat → Nat) (en : Nat → Nat) (bl : Nat → Nat) (pl : Nat → Nat) (wa : Nat → Nat) (M : Nat → Nat → Nat) (b : Nat) (sz0 : Nat) (hn64 : n ≤ 64) (hbn : b < n) (hsz : sz + 64 ≤ 129) : Met l y_Pn_writeAll (pb_ws y_Pn_writeAll b_Pn_writeAll 4 none) (pb_rm 1 0 0) (pb_P D k [.ref (a 1), .int (nI b), .ref (a 4)] (bk_W a ra k n fs op tn mn sz fd pg en bl pl wa M) sz0) (pb_QV D (bk_W a ra k n fs op tn mn sz fd pg en bl pl wa M) sz0 (fun (u : Unit) => True) (fun (u : Unit) => bk_W a ra k n fs op tn mn (sz + 64) fd pg en (pb_fill bl sz 64 (fun _ => b)) (pb_fill pl sz 64 (fun j => j)) (pb_fill wa sz 64 (fun j => M b j)) (pb_rowf M b 64 pg))) 0 0 (va_A (bk_W a ra k n fs op tn mn sz fd pg en bl pl wa M) sz0) := by
  refine pb_mkV R_Pn rfl (by decide) (Nat.le_of_ble_eq_true rfl) ?_
  intro p e R s m args below meth c Q A ls C hRc hA hw hl hini kr
  obtain ⟨H, hH⟩ : ∃ H : Heap, H = s.heap := ⟨_, rfl⟩
  obtain ⟨locs, hL⟩ : ∃ L : List Loc, L = [] := ⟨_, rfl⟩
  have hw : pb_W D A s.heap (bk_W a ra k n fs op tn mn sz fd pg en bl pl wa M) H locs := by rw [hH, hL]; exact hw
  rw [show W p l e R s m args below meth c s.heap [] 0 0 Q (F0 m 0 ls []) = W p l e R s m args below meth c H locs 0 0 Q (F0 m 0 ls []) by rw [hH, hL]]
  clear hH hL
  obtain ⟨hx, hb, hml, hown, hG, hkn, hR1, hR2⟩ := id C
  have hl : lv_has ls 4 [(0, .ref (a 1)), (1, .int (nI b)), (2, .ref (a 4))] := hl
  refine lv_iconst (v := nI 0) hx hb d_Pn_writeAll_0 (by decide +kernel) ?_
  refine lv_istore_n (lv' := [(3, .int (nI 0)), (0, .ref (a 1)), (1, .int (nI b)), (2, .ref (a 4))]) hx hb d_Pn_writeAll_1 rfl hl (by decide) rfl (fun ls hl => ?_)
  have loop2 : ∀ (fu : Nat) (i : Nat) (H : Heap) (locs : List Loc) (ls : Array Slot), (i ≤ 64) → (64 + 1 ≤ i + fu) → pb_W D A s.heap (bk_W a ra k n fs op tn mn (sz + i) fd pg en (pb_fill bl sz i (fun _ => b)) (pb_fill pl sz i (fun j => j)) (pb_fill wa sz i (fun j => M b j)) (pb_rowf M b i pg)) H locs → lv_has ls 4 [(3, .int (nI i)), (0, .ref (a 1)), (1, .int (nI b)), (2, .ref (a 4))] → W p l e R s m args below meth c H locs 0 0 Q (F0 m 2 ls []) := by
    intro fu
    induction fu with
    | zero =>
      intro i H locs ls hi hn
      exfalso
      omega
    | succ fu ih =>
      intro i H locs ls hi hn hw hl
      refine lv_iload_n hx hb d_Pn_writeAll_2 rfl (lv_at hl 0 rfl) ?_
      refine lv_bipush (v := nI 64) hx hb d_Pn_writeAll_3 (by decide +kernel) ?_
      refine pb_ge (tgt := 23) (by omega) (by omega) hx hb d_Pn_writeAll_5 (by decide) (fun c_1 => ?_) (fun c_1 => ?_)
      · obtain rfl : i = 64 := by omega
        exact kr _ _ _ _ () d_Pn_writeAll_23 hw trivial
      · refine lv_aload_n hx hb d_Pn_writeAll_8 rfl (lv_at hl 1 rfl) ?_
        refine lv_iload_n hx hb d_Pn_writeAll_9 rfl (lv_at hl 2 rfl) ?_
        refine lv_iload_n hx hb d_Pn_writeAll_10 rfl (lv_at hl 0 rfl) ?_
        refine lv_aload_n hx hb d_Pn_writeAll_11 rfl (lv_at hl 3 rfl) ?_
        refine lv_iload_n hx hb d_Pn_writeAll_12 rfl (lv_at hl 0 rfl) ?_
        refine bk_l_page C hw.1 (by omega) d_Pn_writeAll_13 ?_
        refine pb_vV (As := [.int (nI b), .int (nI i), .int (sb_b (pg i))]) (rest := []) C hA hw k_Pn_write m_144 (c_Pn_write l D a ra k n fs op tn mn (sz + i) fd pg en (pb_fill bl sz i (fun _ => b)) (pb_fill pl sz i (fun j => j)) (pb_fill wa sz i (fun j => M b j)) (pb_rowf M b i pg) b i (pg i) _ hn64 (by omega) (by omega) (by omega)) rfl hl.1 1 1 rfl rfl rfl ⟨by decide, by decide⟩ ⟨Nat.zero_le _, Nat.zero_le _⟩ rfl (Nat.le_of_ble_eq_true rfl) d_Pn_writeAll_14 (fun u14 H locs h14 hw => ?_)
        refine lv_iinc (v := nI (i + 1)) (lv' := [(3, .int (nI (i + 1))), (0, .ref (a 1)), (1, .int (nI b)), (2, .ref (a 4))]) hx hb d_Pn_writeAll_17 hl (k := 0) rfl (pb_i1 _) (by decide) rfl (fun ls hl => ?_)
        refine lv_goto (tgt := 2) hx hb d_Pn_writeAll_20 (by decide) ?_
        exact ih (i + 1) _ _ _ (by omega) (by omega) (by rw [pb_rowf_at (Nat.le_refl i)] at hw; rw [← pb_fill_s bl sz i, ← pb_fill_s pl sz i, ← pb_fill_s wa sz i, ← pb_rowf_s M b i pg]; exact hw) (lv_sub hl [0, 1, 2, 3] rfl)
  exact loop2 65 0 _ _ _ (by omega) (by omega) (by rw [pb_fill_0, pb_fill_0, pb_fill_0, pb_rowf_0]; exact hw) (lv_sub hl [0, 1, 2, 3] rfl)
set_option maxHeartbeats 4000000 in
set_option maxRecDepth 100000 in
theorem c_Pn_takeBack (l : Launch) (D : va_G) (a : Nat → Nat) (ra : Nat → Nat) (k : Nat → ClassId) (n : Nat) (fs : Nat) (op : Nat) (tn : Int32) (mn : Nat) (sz : Nat) (fd : Nat → Nat) (pg : Nat → Nat) (en : Nat → Nat) (bl : Nat → Nat) (pl : Nat → Nat) (wa : Nat → Nat) (M : Nat → Nat → Nat) (kp : Nat) (sz0 : Nat) (hn64 : n ≤ 64) (hkp : kp ≤ sz) (hsz : sz ≤ 129) (hlog : ∀ q, q < sz → bl q < n ∧ pl q < 64 ∧ wa q < 256) : Met l y_Pn_takeBack (pb_ws y_Pn_takeBack b_Pn_takeBack 3 none) (pb_rm 0 0 0) (pb_P D k [.ref (a 1), .int (nI kp)] (bk_W a ra k n fs op tn mn sz fd pg en bl pl wa M) sz0) (pb_QV D (bk_W a ra k n fs op tn mn sz fd pg en bl pl wa M) sz0 (fun (u : Unit) => True) (fun (u : Unit) => bk_W a ra k n fs op tn mn 0 fd pg en bl pl wa (pb_back bl pl wa kp (sz - kp) M))) 0 0 (va_A (bk_W a ra k n fs op tn mn sz fd pg en bl pl wa M) sz0) := by
  refine pb_mkV R_Pn rfl (by decide) (Nat.le_of_ble_eq_true rfl) ?_
  intro p e R s m args below meth c Q A ls C hRc hA hw hl hini kr
  obtain ⟨H, hH⟩ : ∃ H : Heap, H = s.heap := ⟨_, rfl⟩
  obtain ⟨locs, hL⟩ : ∃ L : List Loc, L = [] := ⟨_, rfl⟩
  have hw : pb_W D A s.heap (bk_W a ra k n fs op tn mn sz fd pg en bl pl wa M) H locs := by rw [hH, hL]; exact hw
  rw [show W p l e R s m args below meth c s.heap [] 0 0 Q (F0 m 0 ls []) = W p l e R s m args below meth c H locs 0 0 Q (F0 m 0 ls []) by rw [hH, hL]]
  clear hH hL
  obtain ⟨hx, hb, hml, hown, hG, hkn, hR1, hR2⟩ := id C
  have hl : lv_has ls 3 [(0, .ref (a 1)), (1, .int (nI kp))] := hl
  refine lv_aload_n hx hb d_Pn_takeBack_0 rfl (lv_at hl 0 rfl) ?_
  refine pn_g_size C hw.1 d_Pn_takeBack_1 ?_
  refine lv_iconst (v := nI 1) hx hb d_Pn_takeBack_4 (by decide +kernel) ?_
  refine lv_isub hx hb d_Pn_takeBack_5 ?_
  refine pb_top (show (nI sz) - (nI 1) = pb_m sz from rfl) ?_
  refine lv_istore_n (lv' := [(2, .int (pb_m sz)), (0, .ref (a 1)), (1, .int (nI kp))]) hx hb d_Pn_takeBack_6 rfl hl (by decide) rfl (fun ls hl => ?_)
  have loop7 : ∀ (fu : Nat) (j : Nat) (Mx : Nat → Nat → Nat) (H : Heap) (locs : List Loc) (ls : Array Slot), (kp ≤ j) → (j ≤ sz) → (j + 1 ≤ kp + fu) → (pb_back bl pl wa kp (j - kp) Mx = pb_back bl pl wa kp (sz - kp) M) → pb_W D A s.heap (bk_W a ra k n fs op tn mn sz fd pg en bl pl wa Mx) H locs → lv_has ls 3 [(2, .int (pb_m j)), (0, .ref (a 1)), (1, .int (nI kp))] → W p l e R s m args below meth c H locs 0 0 Q (F0 m 7 ls []) := by
    intro fu
    induction fu with
    | zero =>
      intro j Mx H locs ls h1 h2 hn hm
      exfalso
      omega
    | succ fu ih =>
      intro j Mx H locs ls h1 h2 hn hm hw hl
      refine lv_iload_n hx hb d_Pn_takeBack_7 rfl (lv_at hl 0 rfl) ?_
      refine lv_iload_n hx hb d_Pn_takeBack_8 rfl (lv_at hl 2 rfl) ?_
      refine lv_icmp_lt (tgt := 42) hx hb d_Pn_takeBack_9 (by decide) (fun c_1 => ?_) (fun c_1 => ?_)
      · refine lv_aload_n hx hb d_Pn_takeBack_42 rfl (lv_at hl 1 rfl) ?_
        refine lv_iconst (v := nI 0) hx hb d_Pn_takeBack_43 (by decide +kernel) ?_
        refine pn_p_size C hw d_Pn_takeBack_44 (fun H locs hw => ?_)
        have hM2 : Mx = pb_back bl pl wa kp (sz - kp) M := by
          have hj : j ≤ kp := (pb_m_lt (by omega) (by omega)).mp c_1
          rw [← hm, show j - kp = 0 by omega]; rfl
        rw [hM2] at hw
        exact kr _ _ _ _ () d_Pn_takeBack_47 hw trivial
      · have cj : kp < j := by
          rcases Nat.lt_or_ge kp j with q | q
          · exact q
          · exact absurd ((pb_m_lt (by omega) (by omega)).mpr q) c_1
        obtain ⟨j', rfl⟩ : ∃ j', j = j' + 1 := ⟨j - 1, by omega⟩
        rw [pb_m_s] at hl
        have hlg := hlog j' (by omega)
        refine lv_aload_n hx hb d_Pn_takeBack_12 rfl (lv_at hl 1 rfl) ?_
        refine pn_g_store C hw.1 d_Pn_takeBack_13 ?_
        refine lv_aload_n hx hb d_Pn_takeBack_16 rfl (lv_at hl 1 rfl) ?_
        refine pn_g_blocks C hw.1 d_Pn_takeBack_17 ?_
        refine lv_iload_n hx hb d_Pn_takeBack_20 rfl (lv_at hl 0 rfl) ?_
        refine bk_l_blocks C hw.1 (by omega) d_Pn_takeBack_21 ?_
        refine bk_row C hw.1 (by omega) hn64 d_Pn_takeBack_22 ?_
        refine lv_aload_n hx hb d_Pn_takeBack_23 rfl (lv_at hl 1 rfl) ?_
        refine pn_g_places C hw.1 d_Pn_takeBack_24 ?_
        refine lv_iload_n hx hb d_Pn_takeBack_27 rfl (lv_at hl 0 rfl) ?_
        refine bk_l_places C hw.1 (by omega) d_Pn_takeBack_28 ?_
        refine lv_aload_n hx hb d_Pn_takeBack_29 rfl (lv_at hl 1 rfl) ?_
        refine pn_g_was C hw.1 d_Pn_takeBack_30 ?_
        refine lv_iload_n hx hb d_Pn_takeBack_33 rfl (lv_at hl 0 rfl) ?_
        refine bk_l_was C hw.1 (by omega) d_Pn_takeBack_34 ?_
        refine bk_rst C hw (by omega) (by omega) (pb_i2b _) d_Pn_takeBack_35 (fun H locs hw => ?_)
        refine lv_iinc (v := pb_m j') (lv' := [(2, .int (pb_m j')), (0, .ref (a 1)), (1, .int (nI kp))]) hx hb d_Pn_takeBack_36 hl (k := 0) rfl (pb_m_dec _) (by decide) rfl (fun ls hl => ?_)
        refine lv_goto (tgt := 7) hx hb d_Pn_takeBack_39 (by decide) ?_
        exact ih j' (va_up Mx (bl j') (va_up (Mx (bl j')) (pl j') (wa j'))) _ _ _ (by omega) (by omega) (by omega) (by rw [pb_back_s (by omega)] at hm; exact hm) hw (lv_sub hl [0, 1, 2] rfl)
  exact loop7 (sz + 1) sz M _ _ _ (by omega) (by omega) (by omega) rfl hw (lv_sub hl [0, 1, 2] rfl)
set_option maxHeartbeats 4000000 in
set_option maxRecDepth 100000 in
theorem c_Bk_clear (l : Launch) (D : va_G) (a : Nat → Nat) (ra : Nat → Nat) (k : Nat → ClassId) (n : Nat) (fs : Nat) (op : Nat) (tn : Int32) (mn : Nat) (sz : Nat) (fd : Nat → Nat) (pg : Nat → Nat) (en : Nat → Nat) (bl : Nat → Nat) (pl : Nat → Nat) (wa : Nat → Nat) (M : Nat → Nat → Nat)  (sz0 : Nat)  : Met l y_Bk_clear (pb_ws y_Bk_clear b_Bk_clear 2 none) (pb_rm 0 0 0) (pb_P D k [.ref (a 0)] (bk_W a ra k n fs op tn mn sz fd pg en bl pl wa M) sz0) (pb_QV D (bk_W a ra k n fs op tn mn sz fd pg en bl pl wa M) sz0 (fun (u : Unit) => True) (fun (u : Unit) => bk_W a ra k n fs op tn mn sz fd (pb_fill pg 0 64 (fun _ => 0)) en bl pl wa M)) 0 0 (va_A (bk_W a ra k n fs op tn mn sz fd pg en bl pl wa M) sz0) := by
  refine pb_mkV R_Bk rfl (by decide) (Nat.le_of_ble_eq_true rfl) ?_
  intro p e R s m args below meth c Q A ls C hRc hA hw hl hini kr
  obtain ⟨H, hH⟩ : ∃ H : Heap, H = s.heap := ⟨_, rfl⟩
  obtain ⟨locs, hL⟩ : ∃ L : List Loc, L = [] := ⟨_, rfl⟩
  have hw : pb_W D A s.heap (bk_W a ra k n fs op tn mn sz fd pg en bl pl wa M) H locs := by rw [hH, hL]; exact hw
  rw [show W p l e R s m args below meth c s.heap [] 0 0 Q (F0 m 0 ls []) = W p l e R s m args below meth c H locs 0 0 Q (F0 m 0 ls []) by rw [hH, hL]]
  clear hH hL
  obtain ⟨hx, hb, hml, hown, hG, hkn, hR1, hR2⟩ := id C
  have hl : lv_has ls 2 [(0, .ref (a 0))] := hl
  refine lv_iconst (v := nI 0) hx hb d_Bk_clear_0 (by decide +kernel) ?_
  refine lv_istore_n (lv' := [(1, .int (nI 0)), (0, .ref (a 0))]) hx hb d_Bk_clear_1 rfl hl (by decide) rfl (fun ls hl => ?_)
  have loop2 : ∀ (fu : Nat) (i : Nat) (H : Heap) (locs : List Loc) (ls : Array Slot), (i ≤ 64) → (64 + 1 ≤ i + fu) → pb_W D A s.heap (bk_W a ra k n fs op tn mn sz fd (pb_fill pg 0 i (fun _ => 0)) en bl pl wa M) H locs → lv_has ls 2 [(1, .int (nI i)), (0, .ref (a 0))] → W p l e R s m args below meth c H locs 0 0 Q (F0 m 2 ls []) := by
    intro fu
    induction fu with
    | zero =>
      intro i H locs ls hi hn
      exfalso
      omega
    | succ fu ih =>
      intro i H locs ls hi hn hw hl
      refine lv_iload_n hx hb d_Bk_clear_2 rfl (lv_at hl 0 rfl) ?_
      refine lv_bipush (v := nI 64) hx hb d_Bk_clear_3 (by decide +kernel) ?_
      refine pb_ge (tgt := 21) (by omega) (by omega) hx hb d_Bk_clear_5 (by decide) (fun c_1 => ?_) (fun c_1 => ?_)
      · obtain rfl : i = 64 := by omega
        exact kr _ _ _ _ () d_Bk_clear_21 hw trivial
      · refine lv_aload_n hx hb d_Bk_clear_8 rfl (lv_at hl 1 rfl) ?_
        refine bk_g_page C hw.1 d_Bk_clear_9 ?_
        refine lv_iload_n hx hb d_Bk_clear_12 rfl (lv_at hl 0 rfl) ?_
        refine lv_iconst (v := nI 0) hx hb d_Bk_clear_13 (by decide +kernel) ?_
        refine bk_s_page C hw (by omega) rfl d_Bk_clear_14 (fun H locs hw => ?_)
        refine lv_iinc (v := nI (i + 1)) (lv' := [(1, .int (nI (i + 1))), (0, .ref (a 0))]) hx hb d_Bk_clear_15 hl (k := 0) rfl (pb_i1 _) (by decide) rfl (fun ls hl => ?_)
        refine lv_goto (tgt := 2) hx hb d_Bk_clear_18 (by decide) ?_
        exact ih (i + 1) _ _ _ (by omega) (by omega) (by rw [← pb_fill_s0 pg i]; exact hw) (lv_sub hl [0, 1] rfl)
  exact loop2 65 0 _ _ _ (by omega) (by omega) (by rw [pb_fill_0]; exact hw) (lv_sub hl [0, 1] rfl)
set_option maxHeartbeats 4000000 in
set_option maxRecDepth 100000 in
theorem c_Bk_seal (l : Launch) (D : va_G) (a : Nat → Nat) (ra : Nat → Nat) (k : Nat → ClassId) (n : Nat) (fs : Nat) (op : Nat) (tn : Int32) (mn : Nat) (sz : Nat) (fd : Nat → Nat) (pg : Nat → Nat) (en : Nat → Nat) (bl : Nat → Nat) (pl : Nat → Nat) (wa : Nat → Nat) (M : Nat → Nat → Nat)  (sz0 : Nat) (hpg : ∀ j, pg j < 256) : Met l y_Bk_seal (pb_ws y_Bk_seal b_Bk_seal 3 none) (pb_rm 2 0 0) (pb_P D k [.ref (a 0)] (bk_W a ra k n fs op tn mn sz fd pg en bl pl wa M) sz0) (pb_QV D (bk_W a ra k n fs op tn mn sz fd pg en bl pl wa M) sz0 (fun (u : Unit) => True) (fun (u : Unit) => bk_W a ra k n fs op tn mn sz fd (pb_seal pg) en bl pl wa M)) 0 0 (va_A (bk_W a ra k n fs op tn mn sz fd pg en bl pl wa M) sz0) := by
  refine pb_mkV R_Bk rfl (by decide) (Nat.le_of_ble_eq_true rfl) ?_
  intro p e R s m args below meth c Q A ls C hRc hA hw hl hini kr
  obtain ⟨H, hH⟩ : ∃ H : Heap, H = s.heap := ⟨_, rfl⟩
  obtain ⟨locs, hL⟩ : ∃ L : List Loc, L = [] := ⟨_, rfl⟩
  have hw : pb_W D A s.heap (bk_W a ra k n fs op tn mn sz fd pg en bl pl wa M) H locs := by rw [hH, hL]; exact hw
  rw [show W p l e R s m args below meth c s.heap [] 0 0 Q (F0 m 0 ls []) = W p l e R s m args below meth c H locs 0 0 Q (F0 m 0 ls []) by rw [hH, hL]]
  clear hH hL
  obtain ⟨hx, hb, hml, hown, hG, hkn, hR1, hR2⟩ := id C
  have hl : lv_has ls 3 [(0, .ref (a 0))] := hl
  refine lv_aload_n hx hb d_Bk_seal_0 rfl (lv_at hl 0 rfl) ?_
  refine bk_g_page C hw.1 d_Bk_seal_1 ?_
  refine pb_sR (As := [.ref (a 4)]) (rest := []) C (pb_one hw.1 4 rfl) k_Bk_sumOf m_65 (c_Bk_sumOf l D k (a 4) pg hpg) rfl hl.1 ⟨by decide, by decide⟩ ⟨Nat.zero_le _, Nat.zero_le _⟩ rfl (Nat.le_of_ble_eq_true rfl) d_Bk_seal_4 (fun r4 h4 => ?_)
  refine lv_istore_n (lv' := [(1, .int r4), (0, .ref (a 0))]) hx hb d_Bk_seal_7 rfl hl (by decide) rfl (fun ls hl => ?_)
  refine lv_iconst (v := nI 0) hx hb d_Bk_seal_8 (by decide +kernel) ?_
  refine lv_istore_n (lv' := [(2, .int (nI 0)), (1, .int r4), (0, .ref (a 0))]) hx hb d_Bk_seal_9 rfl hl (by decide) rfl (fun ls hl => ?_)
  have loop10 : ∀ (fu : Nat) (i : Nat) (H : Heap) (locs : List Loc) (ls : Array Slot), (i ≤ 4) → (4 + 1 ≤ i + fu) → pb_W D A s.heap (bk_W a ra k n fs op tn mn sz fd (pb_fill pg 60 i (fun j => pb_sb (pb_sum pg 60) j)) en bl pl wa M) H locs → lv_has ls 3 [(2, .int (nI i)), (1, .int r4), (0, .ref (a 0))] → W p l e R s m args below meth c H locs 0 0 Q (F0 m 10 ls []) := by
    intro fu
    induction fu with
    | zero =>
      intro i H locs ls hi hn
      exfalso
      omega
    | succ fu ih =>
      intro i H locs ls hi hn hw hl
      refine lv_iload_n hx hb d_Bk_seal_10 rfl (lv_at hl 0 rfl) ?_
      refine lv_iconst (v := nI 4) hx hb d_Bk_seal_11 (by decide +kernel) ?_
      refine pb_ge (tgt := 37) (by omega) (by omega) hx hb d_Bk_seal_12 (by decide) (fun c_1 => ?_) (fun c_1 => ?_)
      · obtain rfl : i = 4 := by omega
        exact kr _ _ _ _ () d_Bk_seal_37 hw trivial
      · refine lv_aload_n hx hb d_Bk_seal_15 rfl (lv_at hl 2 rfl) ?_
        refine bk_g_page C hw.1 d_Bk_seal_16 ?_
        refine lv_bipush (v := nI 60) hx hb d_Bk_seal_19 (by decide +kernel) ?_
        refine lv_iload_n hx hb d_Bk_seal_21 rfl (lv_at hl 0 rfl) ?_
        refine pb_add hx hb d_Bk_seal_22 ?_
        refine lv_iload_n hx hb d_Bk_seal_23 rfl (lv_at hl 1 rfl) ?_
        refine lv_bipush (v := nI 8) hx hb d_Bk_seal_24 (by decide +kernel) ?_
        refine lv_iload_n hx hb d_Bk_seal_26 rfl (lv_at hl 0 rfl) ?_
        refine pb_mul hx hb d_Bk_seal_27 ?_
        refine lv_ishr hx hb d_Bk_seal_28 ?_
        refine lv_i2b (v := sb_b (pb_sb (pb_sum pg 60) i)) hx hb d_Bk_seal_29 (by rw [h4]; exact pb_sb_shr _ (by omega)) ?_
        refine bk_s_page C hw (by omega) (pb_i2b _) d_Bk_seal_30 (fun H locs hw => ?_)
        refine lv_iinc (v := nI (i + 1)) (lv' := [(2, .int (nI (i + 1))), (1, .int r4), (0, .ref (a 0))]) hx hb d_Bk_seal_31 hl (k := 0) rfl (pb_i1 _) (by decide) rfl (fun ls hl => ?_)
        refine lv_goto (tgt := 10) hx hb d_Bk_seal_34 (by decide) ?_
        exact ih (i + 1) _ _ _ (by omega) (by omega) (by rw [← pb_fill_s pg 60 i]; exact hw) (lv_sub hl [0, 1, 2] rfl)
  exact loop10 5 0 _ _ _ (by omega) (by omega) (by rw [pb_fill_0]; exact hw) (lv_sub hl [0, 1, 2] rfl)
set_option maxHeartbeats 4000000 in
set_option maxRecDepth 100000 in
theorem c_Bk_fillRoot (l : Launch) (D : va_G) (a : Nat → Nat) (ra : Nat → Nat) (k : Nat → ClassId) (n : Nat) (fs : Nat) (op : Nat) (tn : Int32) (mn : Nat) (sz : Nat) (fd : Nat → Nat) (pg : Nat → Nat) (en : Nat → Nat) (bl : Nat → Nat) (pl : Nat → Nat) (wa : Nat → Nat) (M : Nat → Nat → Nat) (x : Int32) (bu : Nat) (sz0 : Nat) (hmn : mn ≤ 40) (hen : ∀ q, q < mn → en q < 256) (hpg : ∀ j, pg j < 256) (hbu : ∀ q, q < 64 → (nI q = x ↔ q = bu)) : Met l y_Bk_fillRoot (pb_ws y_Bk_fillRoot b_Bk_fillRoot 4 none) (pb_rm 3 0 0) (pb_P D k [.ref (a 0), .int x] (bk_W a ra k n fs op tn mn sz fd pg en bl pl wa M) sz0) (pb_QV D (bk_W a ra k n fs op tn mn sz fd pg en bl pl wa M) sz0 (fun (u : Nat → Nat) => (∀ j, j < 64 → u j = pb_seal (pb_root mn en bu) j) ∧ ∀ j, u j < 256) (fun (u : Nat → Nat) => bk_W a ra k n fs op tn mn sz fd u en bl pl wa M)) 0 0 (va_A (bk_W a ra k n fs op tn mn sz fd pg en bl pl wa M) sz0) := by
  refine pb_mkV R_Bk rfl (by decide) (Nat.le_of_ble_eq_true rfl) ?_
  intro p e R s m args below meth c Q A ls C hRc hA hw hl hini kr
  obtain ⟨H, hH⟩ : ∃ H : Heap, H = s.heap := ⟨_, rfl⟩
  obtain ⟨locs, hL⟩ : ∃ L : List Loc, L = [] := ⟨_, rfl⟩
  have hw : pb_W D A s.heap (bk_W a ra k n fs op tn mn sz fd pg en bl pl wa M) H locs := by rw [hH, hL]; exact hw
  rw [show W p l e R s m args below meth c s.heap [] 0 0 Q (F0 m 0 ls []) = W p l e R s m args below meth c H locs 0 0 Q (F0 m 0 ls []) by rw [hH, hL]]
  clear hH hL
  obtain ⟨hx, hb, hml, hown, hG, hkn, hR1, hR2⟩ := id C
  have hl : lv_has ls 4 [(0, .ref (a 0)), (1, .int x)] := hl
  refine lv_aload_n hx hb d_Bk_fillRoot_0 rfl (lv_at hl 0 rfl) ?_
  refine pb_vV (As := []) (rest := []) C hA hw k_Bk_clear m_57 (c_Bk_clear l D a ra k n fs op tn mn sz fd pg en bl pl wa M _) rfl hl.1 0 0 rfl rfl rfl ⟨by decide, by decide⟩ ⟨Nat.zero_le _, Nat.zero_le _⟩ rfl (Nat.le_of_ble_eq_true rfl) d_Bk_fillRoot_1 (fun u1 H locs h1 hw => ?_)
  refine lv_iconst (v := nI 0) hx hb d_Bk_fillRoot_4 (by decide +kernel) ?_
  refine lv_istore_n (lv' := [(2, .int (nI 0)), (0, .ref (a 0)), (1, .int x)]) hx hb d_Bk_fillRoot_5 rfl hl (by decide) rfl (fun ls hl => ?_)
  refine lv_iconst (v := nI 0) hx hb d_Bk_fillRoot_6 (by decide +kernel) ?_
  refine lv_istore_n (lv' := [(3, .int (nI 0)), (2, .int (nI 0)), (0, .ref (a 0)), (1, .int x)]) hx hb d_Bk_fillRoot_7 rfl hl (by decide) rfl (fun ls hl => ?_)
  have loop8 : ∀ (fu : Nat) (q t : Nat) (g : Nat → Nat) (H : Heap) (locs : List Loc) (ls : Array Slot), (q ≤ mn) → (mn + 1 ≤ q + fu) → (t ≤ q) → (t = pb_cnt q bu) → (∀ j, j < 64 → g j = if 1 ≤ j ∧ j ≤ t then en (if j - 1 < bu then j - 1 else j) else 0) → (∀ j, g j < 256) → pb_W D A s.heap (bk_W a ra k n fs op tn mn sz fd g en bl pl wa M) H locs → lv_has ls 4 [(3, .int (nI q)), (2, .int (nI t)), (0, .ref (a 0)), (1, .int x)] → W p l e R s m args below meth c H locs 0 0 Q (F0 m 8 ls []) := by
    intro fu
    induction fu with
    | zero =>
      intro q t g H locs ls hq hn htq ht hg hg2
      exfalso
      omega
    | succ fu ih =>
      intro q t g H locs ls hq hn htq ht hg hg2 hw hl
      refine lv_iload_n hx hb d_Bk_fillRoot_8 rfl (lv_at hl 0 rfl) ?_
      refine lv_aload_n hx hb d_Bk_fillRoot_9 rfl (lv_at hl 2 rfl) ?_
      refine bk_g_many C hw.1 d_Bk_fillRoot_10 ?_
      refine pb_ge (tgt := 46) (by omega) (by omega) hx hb d_Bk_fillRoot_13 (by decide) (fun c_1 => ?_) (fun c_1 => ?_)
      · have hqe : q = mn := by omega
        have ht2 : t = pb_cnt mn bu := by rw [ht, hqe]
        have hg3 : ∀ j, j < 64 → va_up g 0 t j = pb_root mn en bu j := by
          intro j hj
          unfold va_up pb_root
          rw [← ht2]
          by_cases h0 : j = 0
          · rw [if_pos h0, if_pos h0]
          · rw [if_neg h0, if_neg h0, hg j hj]
            by_cases h1 : j ≤ t
            · rw [if_pos ⟨by omega, h1⟩, if_pos h1]
            · rw [if_neg (fun z => h1 z.2), if_neg h1]
        have hg4 : ∀ j, va_up g 0 t j < 256 := by
          intro j
          unfold va_up
          by_cases h0 : j = 0
          · rw [if_pos h0]; omega
          · rw [if_neg h0]; exact hg2 j
        refine lv_aload_n hx hb d_Bk_fillRoot_46 rfl (lv_at hl 2 rfl) ?_
        refine bk_g_page C hw.1 d_Bk_fillRoot_47 ?_
        refine lv_iconst (v := nI 0) hx hb d_Bk_fillRoot_50 (by decide +kernel) ?_
        refine lv_iload_n hx hb d_Bk_fillRoot_51 rfl (lv_at hl 1 rfl) ?_
        refine lv_i2b (v := sb_b t) hx hb d_Bk_fillRoot_52 rfl ?_
        refine bk_s_page C hw (by omega) (pb_i2b _) d_Bk_fillRoot_53 (fun H locs hw => ?_)
        refine lv_aload_n hx hb d_Bk_fillRoot_54 rfl (lv_at hl 2 rfl) ?_
        refine pb_vV (As := []) (rest := []) C hA hw k_Bk_seal m_61 (c_Bk_seal l D a ra k n fs op tn mn sz fd (va_up g 0 t) en bl pl wa M _ hg4) rfl hl.1 0 0 rfl rfl rfl ⟨by decide, by decide⟩ ⟨Nat.zero_le _, Nat.zero_le _⟩ rfl (Nat.le_of_ble_eq_true rfl) d_Bk_fillRoot_55 (fun u55 H locs h55 hw => ?_)
        exact kr _ _ _ _ _ d_Bk_fillRoot_58 hw ⟨pb_seal_congr hg3, pb_seal_lt hg4⟩
      · refine lv_iload_n hx hb d_Bk_fillRoot_16 rfl (lv_at hl 0 rfl) ?_
        refine lv_iload_n hx hb d_Bk_fillRoot_17 rfl (lv_at hl 3 rfl) ?_
        refine lv_icmp_ne (tgt := 24) hx hb d_Bk_fillRoot_18 (by decide) (fun c_2 => ?_) (fun c_2 => ?_)
        · refine lv_iinc (v := nI (t + 1)) (lv' := [(2, .int (nI (t + 1))), (3, .int (nI q)), (0, .ref (a 0)), (1, .int x)]) hx hb d_Bk_fillRoot_24 hl (k := 1) rfl (pb_i1 _) (by decide) rfl (fun ls hl => ?_)
          refine lv_aload_n hx hb d_Bk_fillRoot_27 rfl (lv_at hl 2 rfl) ?_
          refine bk_g_page C hw.1 d_Bk_fillRoot_28 ?_
          refine lv_iload_n hx hb d_Bk_fillRoot_31 rfl (lv_at hl 0 rfl) ?_
          refine lv_aload_n hx hb d_Bk_fillRoot_32 rfl (lv_at hl 2 rfl) ?_
          refine bk_g_entries C hw.1 d_Bk_fillRoot_33 ?_
          refine lv_iload_n hx hb d_Bk_fillRoot_36 rfl (lv_at hl 1 rfl) ?_
          refine bk_l_entries C hw.1 (by omega) d_Bk_fillRoot_37 ?_
          refine lv_i2b (v := sb_b (en q)) hx hb d_Bk_fillRoot_38 rfl ?_
          refine bk_s_page C hw (by omega) (pb_i2b _) d_Bk_fillRoot_39 (fun H locs hw => ?_)
          refine lv_iinc (v := nI (q + 1)) (lv' := [(3, .int (nI (q + 1))), (2, .int (nI (t + 1))), (0, .ref (a 0)), (1, .int x)]) hx hb d_Bk_fillRoot_40 hl (k := 1) rfl (pb_i1 _) (by decide) rfl (fun ls hl => ?_)
          refine lv_goto (tgt := 8) hx hb d_Bk_fillRoot_43 (by decide) ?_
          exact ih (q + 1) (t + 1) (va_up g (t + 1) (en q)) _ _ _ (by omega) (by omega) (by omega) (by have c2 : q ≠ bu := fun z => c_2 ((hbu q (by omega)).mpr z); rw [ht]; unfold pb_cnt; split <;> split <;> omega) (by
                have c2 : q ≠ bu := fun z => c_2 ((hbu q (by omega)).mpr z)
                intro j hj
                unfold va_up
                by_cases h : j = t + 1
                · rw [if_pos h, if_pos (by omega)]
                  congr 1
                  unfold pb_cnt at ht
                  split at ht <;> split <;> omega
                · rw [if_neg h, hg j hj]
                  by_cases h1 : 1 ≤ j ∧ j ≤ t
                  · rw [if_pos h1, if_pos (show 1 ≤ j ∧ j ≤ t + 1 by omega)]
                  · rw [if_neg h1, if_neg (show ¬ (1 ≤ j ∧ j ≤ t + 1) by omega)]) (by
                intro j
                unfold va_up
                split
                · exact hen q (by omega)
                · exact hg2 j) hw (lv_sub hl [0, 1, 2, 3] rfl)
        · refine lv_goto (tgt := 40) hx hb d_Bk_fillRoot_21 (by decide) ?_
          refine lv_iinc (v := nI (q + 1)) (lv' := [(3, .int (nI (q + 1))), (2, .int (nI t)), (0, .ref (a 0)), (1, .int x)]) hx hb d_Bk_fillRoot_40 hl (k := 0) rfl (pb_i1 _) (by decide) rfl (fun ls hl => ?_)
          refine lv_goto (tgt := 8) hx hb d_Bk_fillRoot_43 (by decide) ?_
          exact ih (q + 1) t g _ _ _ (by omega) (by omega) (by omega) (by have c2 := (hbu q (by omega)).mp c_2; rw [ht]; unfold pb_cnt; split <;> split <;> omega) hg hg2 hw (lv_sub hl [0, 1, 2, 3] rfl)
  exact loop8 (mn + 1) 0 0 (pb_fill pg 0 64 (fun _ => 0)) _ _ _ (by omega) (by omega) (by omega) (by unfold pb_cnt; simp) (fun j hj => by rw [pb_fill_in (by omega) (by omega), if_neg (by omega)]) (fun j => by unfold pb_fill; split; exact Nat.zero_lt_succ 255; exact hpg j) hw (lv_sub hl [0, 1, 2, 3] rfl)
set_option maxHeartbeats 4000000 in
set_option maxRecDepth 100000 in
theorem c_Bk_turnTo (l : Launch) (D : va_G) (a : Nat → Nat) (ra : Nat → Nat) (k : Nat → ClassId) (n : Nat) (fs : Nat) (op : Nat) (mn : Nat) (sz : Nat) (fd : Nat → Nat) (pg : Nat → Nat) (en : Nat → Nat) (bl : Nat → Nat) (pl : Nat → Nat) (wa : Nat → Nat) (M : Nat → Nat → Nat) (t : Nat) (sz0 : Nat) (hn64 : n ≤ 64) (hn4 : 4 ≤ n) (ht : t = 1 ∨ t = 2) (hsz : sz + 65 ≤ 129) : Met l y_Bk_turnTo (pb_ws y_Bk_turnTo b_Bk_turnTo 1 none) (pb_rm 2 0 0) (pb_P D k [.ref (a 0)] (bk_W a ra k n fs op (nI t) mn sz fd pg en bl pl wa M) sz0) (pb_QV D (bk_W a ra k n fs op (nI t) mn sz fd pg en bl pl wa M) sz0 (fun (u : Unit) => True) (fun (u : Unit) => bk_W a ra k n fs op (nI (3 - t)) mn (sz + 65) fd pg en (pb_turnb bl sz t) (pb_turnp pl sz) (pb_turnw wa M sz t pg) (pb_turnM M t pg))) 0 0 (va_A (bk_W a ra k n fs op (nI t) mn sz fd pg en bl pl wa M) sz0) := by
  refine pb_mkV R_Bk rfl (by decide) (Nat.le_of_ble_eq_true rfl) ?_
  intro p e R s m args below meth c Q A ls C hRc hA hw hl hini kr
  obtain ⟨H, hH⟩ : ∃ H : Heap, H = s.heap := ⟨_, rfl⟩
  obtain ⟨locs, hL⟩ : ∃ L : List Loc, L = [] := ⟨_, rfl⟩
  have hw : pb_W D A s.heap (bk_W a ra k n fs op (nI t) mn sz fd pg en bl pl wa M) H locs := by rw [hH, hL]; exact hw
  rw [show W p l e R s m args below meth c s.heap [] 0 0 Q (F0 m 0 ls []) = W p l e R s m args below meth c H locs 0 0 Q (F0 m 0 ls []) by rw [hH, hL]]
  clear hH hL
  obtain ⟨hx, hb, hml, hown, hG, hkn, hR1, hR2⟩ := id C
  have hl : lv_has ls 1 [(0, .ref (a 0))] := hl
  refine lv_aload_n hx hb d_Bk_turnTo_0 rfl (lv_at hl 0 rfl) ?_
  refine lv_iconst (v := nI 3) hx hb d_Bk_turnTo_1 (by decide +kernel) ?_
  refine lv_aload_n hx hb d_Bk_turnTo_2 rfl (lv_at hl 0 rfl) ?_
  refine bk_g_turn C hw.1 d_Bk_turnTo_3 ?_
  refine pb_sub (by omega) hx hb d_Bk_turnTo_6 ?_
  refine bk_p_turn C hw d_Bk_turnTo_7 (fun H locs hw => ?_)
  refine lv_aload_n hx hb d_Bk_turnTo_10 rfl (lv_at hl 0 rfl) ?_
  refine bk_g_pen C hw.1 d_Bk_turnTo_11 ?_
  refine lv_aload_n hx hb d_Bk_turnTo_14 rfl (lv_at hl 0 rfl) ?_
  refine bk_g_turn C hw.1 d_Bk_turnTo_15 ?_
  refine lv_aload_n hx hb d_Bk_turnTo_18 rfl (lv_at hl 0 rfl) ?_
  refine bk_g_page C hw.1 d_Bk_turnTo_19 ?_
  refine pb_vV (As := [.int (nI (3 - t)), .ref (a 4)]) (rest := []) C hA hw k_Pn_writeAll m_140 (c_Pn_writeAll l D a ra k n fs op (nI (3 - t)) mn sz fd pg en bl pl wa M (3 - t) _ hn64 (by omega) (by omega)) rfl hl.1 1 1 rfl rfl rfl ⟨by decide, by decide⟩ ⟨Nat.zero_le _, Nat.zero_le _⟩ rfl (Nat.le_of_ble_eq_true rfl) d_Bk_turnTo_22 (fun u22 H locs h22 hw => ?_)
  refine lv_aload_n hx hb d_Bk_turnTo_25 rfl (lv_at hl 0 rfl) ?_
  refine bk_g_pen C hw.1 d_Bk_turnTo_26 ?_
  refine lv_iconst (v := nI 0) hx hb d_Bk_turnTo_29 (by decide +kernel) ?_
  refine lv_iconst (v := nI 0) hx hb d_Bk_turnTo_30 (by decide +kernel) ?_
  refine lv_aload_n hx hb d_Bk_turnTo_31 rfl (lv_at hl 0 rfl) ?_
  refine bk_g_turn C hw.1 d_Bk_turnTo_32 ?_
  refine lv_i2b (v := sb_b (3 - t)) hx hb d_Bk_turnTo_35 rfl ?_
  refine pb_vV (As := [.int (nI 0), .int (nI 0), .int (sb_b (3 - t))]) (rest := []) C hA hw k_Pn_write m_152 (c_Pn_write l D a ra k n fs op (nI (3 - t)) mn (sz + 64) fd pg en (pb_fill bl sz 64 (fun _ => (3 - t))) (pb_fill pl sz 64 (fun j => j)) (pb_fill wa sz 64 (fun j => M (3 - t) j)) (pb_rowf M (3 - t) 64 pg) 0 0 (3 - t) _ hn64 (by omega) (by omega) (by omega)) rfl hl.1 1 1 rfl rfl rfl ⟨by decide, by decide⟩ ⟨Nat.zero_le _, Nat.zero_le _⟩ rfl (Nat.le_of_ble_eq_true rfl) d_Bk_turnTo_36 (fun u36 H locs h36 hw => ?_)
  exact kr _ _ _ _ () d_Bk_turnTo_39 hw trivial
set_option maxHeartbeats 4000000 in
set_option maxRecDepth 100000 in
theorem c_Bk_feed (l : Launch) (D : va_G) (a : Nat → Nat) (ra : Nat → Nat) (k : Nat → ClassId) (n : Nat) (fs : Nat) (op : Nat) (tn : Int32) (mn : Nat) (sz : Nat) (fd : Nat → Nat) (pg : Nat → Nat) (en : Nat → Nat) (bl : Nat → Nat) (pl : Nat → Nat) (wa : Nat → Nat) (M : Nat → Nat → Nat) (x : Int32) (sz0 : Nat) (hfs : fs ≤ 48) : Met l y_Bk_feed (pb_ws y_Bk_feed b_Bk_feed 2 (some .boolean)) (pb_rm 0 0 0) (pb_P D k [.ref (a 0), .int x] (bk_W a ra k n fs op tn mn sz fd pg en bl pl wa M) sz0) (pb_QI D (bk_W a ra k n fs op tn mn sz fd pg en bl pl wa M) sz0 (fun (r : Int32) (u : Nat × Nat) => pb_feed fs x r u) (fun (u : Nat × Nat) => if u.1 = 1 then bk_W a ra k n (fs + 1) op tn mn sz (va_up fd fs u.2) pg en bl pl wa M else bk_W a ra k n fs op tn mn sz fd pg en bl pl wa M)) 0 0 (va_A (bk_W a ra k n fs op tn mn sz fd pg en bl pl wa M) sz0) := by
  refine pb_mkI R_Bk rfl (by decide) (Nat.le_of_ble_eq_true rfl) ?_
  intro p e R s m args below meth c Q A ls C hRc hA hw hl kr
  obtain ⟨H, hH⟩ : ∃ H : Heap, H = s.heap := ⟨_, rfl⟩
  obtain ⟨locs, hL⟩ : ∃ L : List Loc, L = [] := ⟨_, rfl⟩
  have hw : pb_W D A s.heap (bk_W a ra k n fs op tn mn sz fd pg en bl pl wa M) H locs := by rw [hH, hL]; exact hw
  rw [show W p l e R s m args below meth c s.heap [] 0 0 Q (F0 m 0 ls []) = W p l e R s m args below meth c H locs 0 0 Q (F0 m 0 ls []) by rw [hH, hL]]
  clear hH hL
  obtain ⟨hx, hb, hml, hown, hG, hkn, hR1, hR2⟩ := id C
  have hl : lv_has ls 2 [(0, .ref (a 0)), (1, .int x)] := hl
  refine lv_iload_n hx hb d_Bk_feed_0 rfl (lv_at hl 1 rfl) ?_
  refine lv_if_lt (tgt := 20) hx hb d_Bk_feed_1 (by decide) (fun c_1 => ?_) (fun c_1 => ?_)
  · refine lv_iconst (v := nI 0) hx hb d_Bk_feed_20 (by decide +kernel) ?_
    exact kr _ _ _ _ _ (0, 0) d_Bk_feed_21 rfl hw (Or.inl ⟨Or.inl c_1, rfl, rfl⟩)
  · refine lv_iload_n hx hb d_Bk_feed_4 rfl (lv_at hl 1 rfl) ?_
    refine lv_sipush (v := nI 255) hx hb d_Bk_feed_5 (by decide +kernel) ?_
    refine lv_icmp_gt (tgt := 20) hx hb d_Bk_feed_8 (by decide) (fun c_2 => ?_) (fun c_2 => ?_)
    · refine lv_iconst (v := nI 0) hx hb d_Bk_feed_20 (by decide +kernel) ?_
      exact kr _ _ _ _ _ (0, 0) d_Bk_feed_21 rfl hw (Or.inl ⟨Or.inr (Or.inl c_2), rfl, rfl⟩)
    · obtain ⟨v, hv, rfl⟩ := pb_num (by decide) c_1 c_2
      refine lv_aload_n hx hb d_Bk_feed_11 rfl (lv_at hl 0 rfl) ?_
      refine bk_g_fedSize C hw.1 d_Bk_feed_12 ?_
      refine lv_bipush (v := nI 48) hx hb d_Bk_feed_15 (by decide +kernel) ?_
      refine pb_ne (tgt := 22) (by omega) (by omega) hx hb d_Bk_feed_17 (by decide) (fun c_3 => ?_) (fun c_3 => ?_)
      · refine lv_aload_n hx hb d_Bk_feed_22 rfl (lv_at hl 0 rfl) ?_
        refine bk_g_fed C hw.1 d_Bk_feed_23 ?_
        refine lv_aload_n hx hb d_Bk_feed_26 rfl (lv_at hl 0 rfl) ?_
        refine bk_g_fedSize C hw.1 d_Bk_feed_27 ?_
        refine lv_iload_n hx hb d_Bk_feed_30 rfl (lv_at hl 1 rfl) ?_
        refine lv_i2b (v := sb_b v) hx hb d_Bk_feed_31 rfl ?_
        refine bk_s_fed C hw (by omega) (pb_i2b _) d_Bk_feed_32 (fun H locs hw => ?_)
        refine lv_aload_n hx hb d_Bk_feed_33 rfl (lv_at hl 0 rfl) ?_
        refine lv_dup hx hb d_Bk_feed_34 rfl ?_
        refine bk_g_fedSize C hw.1 d_Bk_feed_35 ?_
        refine lv_iconst (v := nI 1) hx hb d_Bk_feed_38 (by decide +kernel) ?_
        refine pb_add hx hb d_Bk_feed_39 ?_
        refine bk_p_fedSize C hw d_Bk_feed_40 (fun H locs hw => ?_)
        refine lv_iconst (v := nI 1) hx hb d_Bk_feed_43 (by decide +kernel) ?_
        exact kr _ _ _ _ _ (1, v) d_Bk_feed_44 rfl hw (Or.inr ⟨v, by omega, rfl, by omega, rfl, rfl⟩)
      · refine lv_iconst (v := nI 0) hx hb d_Bk_feed_20 (by decide +kernel) ?_
        exact kr _ _ _ _ _ (0, 0) d_Bk_feed_21 rfl hw (Or.inl ⟨Or.inr (Or.inr c_3), rfl, rfl⟩)
end
section
-- ===== contracts of the book's calls (by gen/m3.py) =====
set_option maxHeartbeats 4000000 in
set_option maxRecDepth 100000 in
theorem c_Bk_free (l : Launch) (D : va_G) (a : Nat → Nat) (ra : Nat → Nat) (k : Nat → ClassId) (n : Nat) (fs : Nat) (op : Nat) (tn : Int32) (mn : Nat) (sz : Nat) (fd : Nat → Nat) (pg : Nat → Nat) (en : Nat → Nat) (bl : Nat → Nat) (pl : Nat → Nat) (wa : Nat → Nat) (M : Nat → Nat → Nat) (t : Nat) (hn64 : n ≤ 64) (hn4 : 4 ≤ n) (hM : ∀ x j, M x j < 256) (hop : op ≤ 1) (ho : op = 1 → tn = nI t ∧ pb_inv n t mn sz en bl pl wa) : Met l y_Bk_free (pb_ws y_Bk_free b_Bk_free 1 (some .int)) (pb_rm 0 0 0) (pb_Pr D k [.ref (a 0)] (bk_W a ra k n fs op tn mn sz fd pg en bl pl wa M)) (vp_Si (fun r : Int32 => (op = 0 ∧ r = -1) ∨ (op = 1 ∧ r = nI n - nI 3 - nI mn))) 0 0 (fun _ => False) := by
  refine pb_mkR R_Bk rfl (by decide) (Nat.le_of_ble_eq_true rfl) ?_
  intro p e R s m args below meth c Q ls C hP hl kr
  obtain ⟨hx, hb, hml, hown, hG, hkn, hR1, hR2⟩ := id C
  have hl : lv_has ls 1 [(0, .ref (a 0))] := hl
  refine lv_aload_n hx hb d_Bk_free_0 rfl (lv_at hl 0 rfl) ?_
  refine bk_g_isOpen C hP d_Bk_free_1 ?_
  refine pb_nz (tgt := 9) (by omega) hx hb d_Bk_free_4 (by decide) (fun c_1 => ?_) (fun c_1 => ?_)
  · obtain ⟨rfl, ht, hmn, hen0, hsz, hlog⟩ := ho (by omega)
    have hen : ∀ q, q < mn → en q < 64 := fun q h => by have := hen0 q h; omega
    have hop1 : op = 1 := by omega
    refine lv_aload_n hx hb d_Bk_free_9 rfl (lv_at hl 0 rfl) ?_
    refine bk_g_store C hP d_Bk_free_10 ?_
    refine bk_len C hP d_Bk_free_13 ?_
    refine lv_iconst (v := nI 3) hx hb d_Bk_free_14 (by decide +kernel) ?_
    refine lv_isub hx hb d_Bk_free_15 ?_
    refine lv_aload_n hx hb d_Bk_free_16 rfl (lv_at hl 0 rfl) ?_
    refine bk_g_many C hP d_Bk_free_17 ?_
    refine lv_isub hx hb d_Bk_free_20 ?_
    exact kr _ _ _ d_Bk_free_21 rfl (Or.inr ⟨hop1, rfl⟩)
  · refine lv_iconst (v := -1) hx hb d_Bk_free_7 (by decide +kernel) ?_
    exact kr _ _ _ d_Bk_free_8 rfl (Or.inl ⟨c_1, rfl⟩)
set_option maxHeartbeats 4000000 in
set_option maxRecDepth 100000 in
theorem c_Bk_root (l : Launch) (D : va_G) (a : Nat → Nat) (ra : Nat → Nat) (k : Nat → ClassId) (n : Nat) (fs : Nat) (op : Nat) (tn : Int32) (mn : Nat) (sz : Nat) (fd : Nat → Nat) (pg : Nat → Nat) (en : Nat → Nat) (bl : Nat → Nat) (pl : Nat → Nat) (wa : Nat → Nat) (M : Nat → Nat → Nat) (t : Nat) (hn64 : n ≤ 64) (hn4 : 4 ≤ n) (hM : ∀ x j, M x j < 256) (hop : op ≤ 1) (ho : op = 1 → tn = nI t ∧ pb_inv n t mn sz en bl pl wa) : Met l y_Bk_root (pb_ws y_Bk_root b_Bk_root 1 (some .int)) (pb_rm 0 0 0) (pb_Pr D k [.ref (a 0)] (bk_W a ra k n fs op tn mn sz fd pg en bl pl wa M)) (vp_Si (fun r : Int32 => (op = 0 ∧ r = -1) ∨ (op = 1 ∧ r = nI t))) 0 0 (fun _ => False) := by
  refine pb_mkR R_Bk rfl (by decide) (Nat.le_of_ble_eq_true rfl) ?_
  intro p e R s m args below meth c Q ls C hP hl kr
  obtain ⟨hx, hb, hml, hown, hG, hkn, hR1, hR2⟩ := id C
  have hl : lv_has ls 1 [(0, .ref (a 0))] := hl
  refine lv_aload_n hx hb d_Bk_root_0 rfl (lv_at hl 0 rfl) ?_
  refine bk_g_isOpen C hP d_Bk_root_1 ?_
  refine pb_z (tgt := 14) (by omega) hx hb d_Bk_root_4 (by decide) (fun c_1 => ?_) (fun c_1 => ?_)
  · refine lv_iconst (v := -1) hx hb d_Bk_root_14 (by decide +kernel) ?_
    exact kr _ _ _ d_Bk_root_15 rfl (Or.inl ⟨c_1, rfl⟩)
  · obtain ⟨rfl, ht, hmn, hen0, hsz, hlog⟩ := ho (by omega)
    have hen : ∀ q, q < mn → en q < 64 := fun q h => by have := hen0 q h; omega
    have hop1 : op = 1 := by omega
    refine lv_aload_n hx hb d_Bk_root_7 rfl (lv_at hl 0 rfl) ?_
    refine bk_g_turn C hP d_Bk_root_8 ?_
    refine lv_goto (tgt := 15) hx hb d_Bk_root_11 (by decide) ?_
    exact kr _ _ _ d_Bk_root_15 rfl (Or.inr ⟨hop1, rfl⟩)
set_option maxHeartbeats 4000000 in
set_option maxRecDepth 100000 in
theorem c_Bk_find (l : Launch) (D : va_G) (a : Nat → Nat) (ra : Nat → Nat) (k : Nat → ClassId) (n : Nat) (fs : Nat) (op : Nat) (tn : Int32) (mn : Nat) (sz : Nat) (fd : Nat → Nat) (pg : Nat → Nat) (en : Nat → Nat) (bl : Nat → Nat) (pl : Nat → Nat) (wa : Nat → Nat) (M : Nat → Nat → Nat) (t : Nat) (x y : Int32) (hn64 : n ≤ 64) (hn4 : 4 ≤ n) (hM : ∀ x j, M x j < 256) (hop : op ≤ 1) (ho : op = 1 → tn = nI t ∧ pb_inv n t mn sz en bl pl wa) : Met l y_Bk_find (pb_ws y_Bk_find b_Bk_find 4 (some .int)) (pb_rm 1 0 0) (pb_Pr D k [.ref (a 0), .int x, .int y] (bk_W a ra k n fs op tn mn sz fd pg en bl pl wa M)) (vp_Si (fun r : Int32 => pb_finds op mn en M x y r)) 0 0 (fun _ => False) := by
  refine pb_mkR R_Bk rfl (by decide) (Nat.le_of_ble_eq_true rfl) ?_
  intro p e R s m args below meth c Q ls C hP hl kr
  obtain ⟨hx, hb, hml, hown, hG, hkn, hR1, hR2⟩ := id C
  have hl : lv_has ls 4 [(0, .ref (a 0)), (1, .int x), (2, .int y)] := hl
  refine lv_aload_n hx hb d_Bk_find_0 rfl (lv_at hl 0 rfl) ?_
  refine bk_g_isOpen C hP d_Bk_find_1 ?_
  refine pb_nz (tgt := 9) (by omega) hx hb d_Bk_find_4 (by decide) (fun c_1 => ?_) (fun c_1 => ?_)
  · obtain ⟨rfl, ht, hmn, hen0, hsz, hlog⟩ := ho (by omega)
    have hen : ∀ q, q < mn → en q < 64 := fun q h => by have := hen0 q h; omega
    have hop1 : op = 1 := by omega
    refine lv_aload_n hx hb d_Bk_find_9 rfl (lv_at hl 0 rfl) ?_
    refine bk_g_many C hP d_Bk_find_10 ?_
    refine lv_iconst (v := nI 1) hx hb d_Bk_find_13 (by decide +kernel) ?_
    refine lv_isub hx hb d_Bk_find_14 ?_
    refine pb_top (show (nI mn) - (nI 1) = pb_m mn from rfl) ?_
    refine lv_istore_n (lv' := [(3, .int (pb_m mn)), (0, .ref (a 0)), (1, .int x), (2, .int y)]) hx hb d_Bk_find_15 rfl hl (by decide) rfl (fun ls hl => ?_)
    have loop16 : ∀ (fu : Nat) (j : Nat) (ls : Array Slot), (j ≤ mn) → (j + 1 ≤ fu) → (∀ q', j ≤ q' → q' < mn → nI (M (en q') 0 + 256 * M (en q') 1) ≠ x) → lv_has ls 4 [(3, .int (pb_m j)), (0, .ref (a 0)), (1, .int x), (2, .int y)] → W p l e R s m args below meth c s.heap [] 0 0 Q (F0 m 16 ls []) := by
      intro fu
      induction fu with
      | zero =>
        intro j ls h1 hn hs
        exfalso
        omega
      | succ fu ih =>
        intro j ls h1 hn hs hl
        refine lv_iload_n hx hb d_Bk_find_16 rfl (lv_at hl 0 rfl) ?_
        refine lv_if_lt (tgt := 91) hx hb d_Bk_find_17 (by decide) (fun c_2 => ?_) (fun c_2 => ?_)
        · refine lv_iconst (v := -1) hx hb d_Bk_find_91 (by decide +kernel) ?_
          exact kr _ _ _ d_Bk_find_92 rfl (Or.inr (Or.inl ⟨hop1, fun q hq => hs q (by have := (pb_m_neg (show j < 2 ^ 31 by omega)).mp c_2; omega) hq, rfl⟩))
        · have cj : 0 < j := by
            rcases Nat.eq_zero_or_pos j with q | q
            · exact absurd ((pb_m_neg (by omega)).mpr q) c_2
            · exact q
          obtain ⟨q, rfl⟩ : ∃ q, j = q + 1 := ⟨j - 1, by omega⟩
          rw [pb_m_s] at hl
          have he := hen0 q (by omega)
          refine lv_aload_n hx hb d_Bk_find_20 rfl (lv_at hl 1 rfl) ?_
          refine lv_aload_n hx hb d_Bk_find_21 rfl (lv_at hl 1 rfl) ?_
          refine bk_g_entries C hP d_Bk_find_22 ?_
          refine lv_iload_n hx hb d_Bk_find_25 rfl (lv_at hl 0 rfl) ?_
          refine bk_l_entries C hP (by omega) d_Bk_find_26 ?_
          refine pb_vR (As := [.int (nI (en q))]) (rest := []) C hP k_Bk_nameOf m_157 (c_Bk_nameOf l D a ra k n fs op (nI t) mn sz fd pg en bl pl wa M (en q) hn64 hM (by omega)) rfl hl.1 0 0 rfl rfl rfl ⟨by decide, by decide⟩ ⟨Nat.zero_le _, Nat.zero_le _⟩ rfl (Nat.le_of_ble_eq_true rfl) d_Bk_find_27 (fun r27 h27 => ?_)
          subst h27
          refine lv_iload_n hx hb d_Bk_find_30 rfl (lv_at hl 2 rfl) ?_
          refine lv_icmp_eq (tgt := 37) hx hb d_Bk_find_31 (by decide) (fun c_3 => ?_) (fun c_3 => ?_)
          · refine lv_iload_n hx hb d_Bk_find_37 rfl (lv_at hl 3 rfl) ?_
            refine lv_if_lt (tgt := 61) hx hb d_Bk_find_38 (by decide) (fun c_4 => ?_) (fun c_4 => ?_)
            · refine lv_iconst (v := -1) hx hb d_Bk_find_61 (by decide +kernel) ?_
              refine lv_goto (tgt := 84) hx hb d_Bk_find_62 (by decide) ?_
              exact kr _ _ _ d_Bk_find_84 rfl (Or.inr (Or.inr ⟨hop1, q, by omega, c_3, fun q' g1 g2 => hs q' g1 g2, Or.inl ⟨Or.inl c_4, rfl⟩⟩))
            · refine lv_iload_n hx hb d_Bk_find_41 rfl (lv_at hl 3 rfl) ?_
              refine lv_aload_n hx hb d_Bk_find_42 rfl (lv_at hl 1 rfl) ?_
              refine lv_aload_n hx hb d_Bk_find_43 rfl (lv_at hl 1 rfl) ?_
              refine bk_g_entries C hP d_Bk_find_44 ?_
              refine lv_iload_n hx hb d_Bk_find_47 rfl (lv_at hl 0 rfl) ?_
              refine bk_l_entries C hP (by omega) d_Bk_find_48 ?_
              refine pb_vR (As := [.int (nI (en q))]) (rest := [.int y]) C hP k_Bk_sizeOf m_91 (c_Bk_sizeOf l D a ra k n fs op (nI t) mn sz fd pg en bl pl wa M (en q) hn64 hM (by omega)) rfl hl.1 0 0 rfl rfl rfl ⟨by decide, by decide⟩ ⟨Nat.zero_le _, Nat.zero_le _⟩ rfl (Nat.le_of_ble_eq_true rfl) d_Bk_find_49 (fun r49 h49 => ?_)
              subst h49
              refine lv_icmp_ge (tgt := 61) hx hb d_Bk_find_52 (by decide) (fun c_5 => ?_) (fun c_5 => ?_)
              · refine lv_iconst (v := -1) hx hb d_Bk_find_61 (by decide +kernel) ?_
                refine lv_goto (tgt := 84) hx hb d_Bk_find_62 (by decide) ?_
                exact kr _ _ _ d_Bk_find_84 rfl (Or.inr (Or.inr ⟨hop1, q, by omega, c_3, fun q' g1 g2 => hs q' g1 g2, Or.inl ⟨Or.inr (Or.inl c_5), rfl⟩⟩))
              · refine lv_iload_n hx hb d_Bk_find_55 rfl (lv_at hl 3 rfl) ?_
                refine lv_bipush (v := nI 48) hx hb d_Bk_find_56 (by decide +kernel) ?_
                refine lv_icmp_lt (tgt := 65) hx hb d_Bk_find_58 (by decide) (fun c_6 => ?_) (fun c_6 => ?_)
                · obtain ⟨i, hi, rfl⟩ := pb_num_lt (by decide) c_4 c_6
                  have c_5b : i < M (en q) 2 := by
                    have h2 := hM (en q) 2
                    rcases Nat.lt_or_ge i (M (en q) 2) with z | z
                    · exact z
                    · exact absurd ((nI_leI (by omega) (by omega)).mpr z) c_5
                  refine lv_aload_n hx hb d_Bk_find_65 rfl (lv_at hl 1 rfl) ?_
                  refine bk_g_store C hP d_Bk_find_66 ?_
                  refine lv_aload_n hx hb d_Bk_find_69 rfl (lv_at hl 1 rfl) ?_
                  refine bk_g_entries C hP d_Bk_find_70 ?_
                  refine lv_iload_n hx hb d_Bk_find_73 rfl (lv_at hl 0 rfl) ?_
                  refine bk_l_entries C hP (by omega) d_Bk_find_74 ?_
                  refine bk_row C hP (by omega) hn64 d_Bk_find_75 ?_
                  refine lv_iconst (v := nI 3) hx hb d_Bk_find_76 (by decide +kernel) ?_
                  refine lv_iload_n hx hb d_Bk_find_77 rfl (lv_at hl 3 rfl) ?_
                  refine pb_add hx hb d_Bk_find_78 ?_
                  refine bk_rld C hP (by omega) (by omega) d_Bk_find_79 ?_
                  refine lv_sipush (v := nI 255) hx hb d_Bk_find_80 (by decide +kernel) ?_
                  refine pb_and (hM _ _) hx hb d_Bk_find_83 ?_
                  exact kr _ _ _ d_Bk_find_84 rfl (Or.inr (Or.inr ⟨hop1, q, by omega, c_3, fun q' g1 g2 => hs q' g1 g2, Or.inr ⟨i, hi, c_5b, rfl, rfl⟩⟩))
                · refine lv_iconst (v := -1) hx hb d_Bk_find_61 (by decide +kernel) ?_
                  refine lv_goto (tgt := 84) hx hb d_Bk_find_62 (by decide) ?_
                  exact kr _ _ _ d_Bk_find_84 rfl (Or.inr (Or.inr ⟨hop1, q, by omega, c_3, fun q' g1 g2 => hs q' g1 g2, Or.inl ⟨Or.inr (Or.inr (Int32.not_lt.mp c_6)), rfl⟩⟩))
          · refine lv_goto (tgt := 85) hx hb d_Bk_find_34 (by decide) ?_
            refine lv_iinc (v := pb_m q) (lv' := [(3, .int (pb_m q)), (0, .ref (a 0)), (1, .int x), (2, .int y)]) hx hb d_Bk_find_85 hl (k := 0) rfl (pb_m_dec _) (by decide) rfl (fun ls hl => ?_)
            refine lv_goto (tgt := 16) hx hb d_Bk_find_88 (by decide) ?_
            exact ih q _ (by omega) (by omega) (fun q' g1 g2 => by rcases Nat.lt_or_ge q q' with z | z; exact hs q' z g2; obtain rfl : q' = q := (by omega); exact c_3) (lv_sub hl [0, 1, 2, 3] rfl)
    exact loop16 (mn + 1) mn _ (by omega) (by omega) (fun q' g1 g2 => by omega) (lv_sub hl [0, 1, 2, 3] rfl)
  · refine lv_iconst (v := -1) hx hb d_Bk_find_7 (by decide +kernel) ?_
    exact kr _ _ _ d_Bk_find_8 rfl (Or.inl ⟨c_1, rfl⟩)
theorem pb_sw2 {y : Int32} (y0 : ¬ y = nI 0) (y1 : ¬ y = nI 1) (y2 : ¬ y = nI 2) : y.toInt < 0 ∨ 2 < y.toInt := by
  have h0 : ¬ y.toInt = 0 := lv_neT y0 (by decide +kernel)
  have h1 : ¬ y.toInt = 1 := lv_neT y1 (by decide +kernel)
  have h2 : ¬ y.toInt = 2 := lv_neT y2 (by decide +kernel)
  omega
set_option maxHeartbeats 4000000 in
set_option maxRecDepth 100000 in
theorem c_Bk_entry (l : Launch) (D : va_G) (a : Nat → Nat) (ra : Nat → Nat) (k : Nat → ClassId) (n : Nat) (fs : Nat) (op : Nat) (tn : Int32) (mn : Nat) (sz : Nat) (fd : Nat → Nat) (pg : Nat → Nat) (en : Nat → Nat) (bl : Nat → Nat) (pl : Nat → Nat) (wa : Nat → Nat) (M : Nat → Nat → Nat) (t : Nat) (x y : Int32) (hn64 : n ≤ 64) (hn4 : 4 ≤ n) (hM : ∀ x j, M x j < 256) (hop : op ≤ 1) (ho : op = 1 → tn = nI t ∧ pb_inv n t mn sz en bl pl wa) : Met l y_Bk_entry (pb_ws y_Bk_entry b_Bk_entry 3 (some .int)) (pb_rm 1 0 0) (pb_Pr D k [.ref (a 0), .int x, .int y] (bk_W a ra k n fs op tn mn sz fd pg en bl pl wa M)) (vp_Si (fun r : Int32 => pb_entrys op mn en M x y r)) 0 0 (fun _ => False) := by
  refine pb_mkR R_Bk rfl (by decide) (Nat.le_of_ble_eq_true rfl) ?_
  intro p e R s m args below meth c Q ls C hP hl kr
  obtain ⟨hx, hb, hml, hown, hG, hkn, hR1, hR2⟩ := id C
  have hl : lv_has ls 3 [(0, .ref (a 0)), (1, .int x), (2, .int y)] := hl
  refine lv_aload_n hx hb d_Bk_entry_0 rfl (lv_at hl 0 rfl) ?_
  refine bk_g_isOpen C hP d_Bk_entry_1 ?_
  refine pb_z (tgt := 19) (by omega) hx hb d_Bk_entry_4 (by decide) (fun c_1 => ?_) (fun c_1 => ?_)
  · refine lv_iconst (v := -1) hx hb d_Bk_entry_19 (by decide +kernel) ?_
    exact kr _ _ _ d_Bk_entry_20 rfl (Or.inl ⟨Or.inl c_1, rfl⟩)
  · obtain ⟨rfl, ht, hmn, hen0, hsz, hlog⟩ := ho (by omega)
    have hen : ∀ q, q < mn → en q < 64 := fun q h => by have := hen0 q h; omega
    have hop1 : op = 1 := by omega
    refine lv_iload_n hx hb d_Bk_entry_7 rfl (lv_at hl 1 rfl) ?_
    refine lv_if_lt (tgt := 19) hx hb d_Bk_entry_8 (by decide) (fun c_2 => ?_) (fun c_2 => ?_)
    · refine lv_iconst (v := -1) hx hb d_Bk_entry_19 (by decide +kernel) ?_
      exact kr _ _ _ d_Bk_entry_20 rfl (Or.inl ⟨Or.inr (Or.inl c_2), rfl⟩)
    · refine lv_iload_n hx hb d_Bk_entry_11 rfl (lv_at hl 1 rfl) ?_
      refine lv_aload_n hx hb d_Bk_entry_12 rfl (lv_at hl 0 rfl) ?_
      refine bk_g_many C hP d_Bk_entry_13 ?_
      refine lv_icmp_lt (tgt := 21) hx hb d_Bk_entry_16 (by decide) (fun c_3 => ?_) (fun c_3 => ?_)
      · obtain ⟨q, hq, rfl⟩ := pb_num_lt (by omega) c_2 c_3
        have he := hen0 q hq
        refine lv_iload_n hx hb d_Bk_entry_21 rfl (lv_at hl 2 rfl) ?_
        by_cases y0 : y = nI 0
        · subst y0
          refine lv_tableIn (off := 26) (tgt := 48) hx hb d_Bk_entry_22 (by decide +kernel) (by decide +kernel) (by decide +kernel) (by decide) ?_
          refine lv_aload_n hx hb d_Bk_entry_48 rfl (lv_at hl 0 rfl) ?_
          refine lv_aload_n hx hb d_Bk_entry_49 rfl (lv_at hl 0 rfl) ?_
          refine bk_g_entries C hP d_Bk_entry_50 ?_
          refine lv_iload_n hx hb d_Bk_entry_53 rfl (lv_at hl 1 rfl) ?_
          refine bk_l_entries C hP (by omega) d_Bk_entry_54 ?_
          refine pb_vR (As := [.int (nI (en q))]) (rest := []) C hP k_Bk_nameOf m_157 (c_Bk_nameOf l D a ra k n fs op (nI t) mn sz fd pg en bl pl wa M (en q) hn64 hM (by omega)) rfl hl.1 0 0 rfl rfl rfl ⟨by decide, by decide⟩ ⟨Nat.zero_le _, Nat.zero_le _⟩ rfl (Nat.le_of_ble_eq_true rfl) d_Bk_entry_55 (fun r55 h55 => ?_)
          subst h55
          exact kr _ _ _ d_Bk_entry_58 rfl (Or.inr ⟨hop1, q, hq, rfl, Or.inl ⟨rfl, rfl⟩⟩)
        by_cases y1 : y = nI 1
        · subst y1
          refine lv_tableIn (off := 37) (tgt := 59) hx hb d_Bk_entry_22 (by decide +kernel) (by decide +kernel) (by decide +kernel) (by decide) ?_
          refine lv_aload_n hx hb d_Bk_entry_59 rfl (lv_at hl 0 rfl) ?_
          refine bk_g_entries C hP d_Bk_entry_60 ?_
          refine lv_iload_n hx hb d_Bk_entry_63 rfl (lv_at hl 1 rfl) ?_
          refine bk_l_entries C hP (by omega) d_Bk_entry_64 ?_
          exact kr _ _ _ d_Bk_entry_65 rfl (Or.inr ⟨hop1, q, hq, rfl, Or.inr (Or.inl ⟨rfl, rfl⟩)⟩)
        by_cases y2 : y = nI 2
        · subst y2
          refine lv_tableIn (off := 44) (tgt := 66) hx hb d_Bk_entry_22 (by decide +kernel) (by decide +kernel) (by decide +kernel) (by decide) ?_
          refine lv_aload_n hx hb d_Bk_entry_66 rfl (lv_at hl 0 rfl) ?_
          refine lv_aload_n hx hb d_Bk_entry_67 rfl (lv_at hl 0 rfl) ?_
          refine bk_g_entries C hP d_Bk_entry_68 ?_
          refine lv_iload_n hx hb d_Bk_entry_71 rfl (lv_at hl 1 rfl) ?_
          refine bk_l_entries C hP (by omega) d_Bk_entry_72 ?_
          refine pb_vR (As := [.int (nI (en q))]) (rest := []) C hP k_Bk_sizeOf m_91 (c_Bk_sizeOf l D a ra k n fs op (nI t) mn sz fd pg en bl pl wa M (en q) hn64 hM (by omega)) rfl hl.1 0 0 rfl rfl rfl ⟨by decide, by decide⟩ ⟨Nat.zero_le _, Nat.zero_le _⟩ rfl (Nat.le_of_ble_eq_true rfl) d_Bk_entry_73 (fun r73 h73 => ?_)
          subst h73
          exact kr _ _ _ d_Bk_entry_76 rfl (Or.inr ⟨hop1, q, hq, rfl, Or.inr (Or.inr (Or.inl ⟨rfl, rfl⟩))⟩)
        refine lv_tableOut (tgt := 77) hx hb d_Bk_entry_22 (pb_sw2 y0 y1 y2) (by decide) ?_
        refine lv_iconst (v := -1) hx hb d_Bk_entry_77 (by decide +kernel) ?_
        exact kr _ _ _ d_Bk_entry_78 rfl (Or.inr ⟨hop1, q, hq, rfl, Or.inr (Or.inr (Or.inr ⟨y0, y1, y2, rfl⟩))⟩)
      · refine lv_iconst (v := -1) hx hb d_Bk_entry_19 (by decide +kernel) ?_
        exact kr _ _ _ d_Bk_entry_20 rfl (Or.inl ⟨Or.inr (Or.inr (Int32.not_lt.mp c_3)), rfl⟩)
set_option maxHeartbeats 4000000 in
set_option maxRecDepth 100000 in
theorem c_Bk_badAt (l : Launch) (D : va_G) (a : Nat → Nat) (ra : Nat → Nat) (k : Nat → ClassId) (n : Nat) (fs : Nat) (op : Nat) (tn : Int32) (mn : Nat) (sz : Nat) (fd : Nat → Nat) (pg : Nat → Nat) (en : Nat → Nat) (bl : Nat → Nat) (pl : Nat → Nat) (wa : Nat → Nat) (M : Nat → Nat → Nat) (t : Nat) (hn64 : n ≤ 64) (hn4 : 4 ≤ n) (hM : ∀ x j, M x j < 256) (hop : op ≤ 1) (ho : op = 1 → tn = nI t ∧ pb_inv n t mn sz en bl pl wa) : Met l y_Bk_badAt (pb_ws y_Bk_badAt b_Bk_badAt 2 (some .int)) (pb_rm 3 0 0) (pb_Pr D k [.ref (a 0)] (bk_W a ra k n fs op tn mn sz fd pg en bl pl wa M)) (vp_Si (fun r : Int32 => pb_bads n op t mn en M r)) 0 0 (fun _ => False) := by
  refine pb_mkR R_Bk rfl (by decide) (Nat.le_of_ble_eq_true rfl) ?_
  intro p e R s m args below meth c Q ls C hP hl kr
  obtain ⟨hx, hb, hml, hown, hG, hkn, hR1, hR2⟩ := id C
  have hl : lv_has ls 2 [(0, .ref (a 0))] := hl
  refine lv_aload_n hx hb d_Bk_badAt_0 rfl (lv_at hl 0 rfl) ?_
  refine bk_g_isOpen C hP d_Bk_badAt_1 ?_
  refine pb_nz (tgt := 9) (by omega) hx hb d_Bk_badAt_4 (by decide) (fun c_1 => ?_) (fun c_1 => ?_)
  · obtain ⟨rfl, ht, hmn, hen0, hsz, hlog⟩ := ho (by omega)
    have hen : ∀ q, q < mn → en q < 64 := fun q h => by have := hen0 q h; omega
    have hop1 : op = 1 := by omega
    refine lv_aload_n hx hb d_Bk_badAt_9 rfl (lv_at hl 0 rfl) ?_
    refine lv_aload_n hx hb d_Bk_badAt_10 rfl (lv_at hl 0 rfl) ?_
    refine bk_g_turn C hP d_Bk_badAt_11 ?_
    refine pb_vR (As := [.int (nI t)]) (rest := []) C hP k_Bk_isRight m_76 (c_Bk_isRight l D a ra k n fs op (nI t) mn sz fd pg en bl pl wa M t hn64 hM (by omega)) rfl hl.1 0 0 rfl rfl rfl ⟨by decide, by decide⟩ ⟨Nat.zero_le _, Nat.zero_le _⟩ rfl (Nat.le_of_ble_eq_true rfl) d_Bk_badAt_14 (fun r14 h14 => ?_)
    rcases h14 with ⟨rfl, h14⟩ | ⟨rfl, h14⟩
    · refine pb_nz (tgt := 25) (by decide) hx hb d_Bk_badAt_17 (by decide) (fun _ => ?_) (fun c_2 => absurd c_2 (by decide))
      refine lv_iconst (v := nI 3) hx hb d_Bk_badAt_25 (by decide +kernel) ?_
      refine lv_istore_n (lv' := [(1, .int (nI 3)), (0, .ref (a 0))]) hx hb d_Bk_badAt_26 rfl hl (by decide) rfl (fun ls hl => ?_)
      have loop27 : ∀ (fu : Nat) (i : Nat) (ls : Array Slot), (3 ≤ i) → (i ≤ n) → (n + 1 ≤ i + fu) → (∀ b', 3 ≤ b' → b' < i → ¬ (pb_used mn en b' ∧ ¬ pb_right (M b'))) → lv_has ls 2 [(1, .int (nI i)), (0, .ref (a 0))] → W p l e R s m args below meth c s.heap [] 0 0 Q (F0 m 27 ls []) := by
        intro fu
        induction fu with
        | zero =>
          intro i ls h3 hi hn hs
          exfalso
          omega
        | succ fu ih =>
          intro i ls h3 hi hn hs hl
          refine lv_iload_n hx hb d_Bk_badAt_27 rfl (lv_at hl 0 rfl) ?_
          refine lv_aload_n hx hb d_Bk_badAt_28 rfl (lv_at hl 1 rfl) ?_
          refine bk_g_store C hP d_Bk_badAt_29 ?_
          refine bk_len C hP d_Bk_badAt_32 ?_
          refine pb_ge (tgt := 60) (by omega) (by omega) hx hb d_Bk_badAt_33 (by decide) (fun c_3 => ?_) (fun c_3 => ?_)
          · refine lv_iconst (v := -1) hx hb d_Bk_badAt_60 (by decide +kernel) ?_
            exact kr _ _ _ d_Bk_badAt_61 rfl (Or.inr (Or.inr (Or.inr ⟨hop1, h14, fun b' g1 g2 => hs b' g1 (by omega), rfl⟩)))
          · refine lv_aload_n hx hb d_Bk_badAt_36 rfl (lv_at hl 1 rfl) ?_
            refine lv_iload_n hx hb d_Bk_badAt_37 rfl (lv_at hl 0 rfl) ?_
            refine pb_vR (As := [.int (nI i)]) (rest := []) C hP k_Bk_isUsed m_87 (c_Bk_isUsed l D a ra k n fs op (nI t) mn sz fd pg en bl pl wa M i hmn hen (by omega)) rfl hl.1 0 0 rfl rfl rfl ⟨by decide, by decide⟩ ⟨Nat.zero_le _, Nat.zero_le _⟩ rfl (Nat.le_of_ble_eq_true rfl) d_Bk_badAt_38 (fun r38 h38 => ?_)
            rcases h38 with ⟨rfl, h38⟩ | ⟨rfl, h38⟩
            · refine pb_z (tgt := 54) (by decide) hx hb d_Bk_badAt_41 (by decide) (fun c_4 => absurd c_4 (by decide)) (fun _ => ?_)
              refine lv_aload_n hx hb d_Bk_badAt_44 rfl (lv_at hl 1 rfl) ?_
              refine lv_iload_n hx hb d_Bk_badAt_45 rfl (lv_at hl 0 rfl) ?_
              refine pb_vR (As := [.int (nI i)]) (rest := []) C hP k_Bk_isRight m_76 (c_Bk_isRight l D a ra k n fs op (nI t) mn sz fd pg en bl pl wa M i hn64 hM (by omega)) rfl hl.1 0 0 rfl rfl rfl ⟨by decide, by decide⟩ ⟨Nat.zero_le _, Nat.zero_le _⟩ rfl (Nat.le_of_ble_eq_true rfl) d_Bk_badAt_46 (fun r46 h46 => ?_)
              rcases h46 with ⟨rfl, h46⟩ | ⟨rfl, h46⟩
              · refine pb_nz (tgt := 54) (by decide) hx hb d_Bk_badAt_49 (by decide) (fun _ => ?_) (fun c_5 => absurd c_5 (by decide))
                refine lv_iinc (v := nI (i + 1)) (lv' := [(1, .int (nI (i + 1))), (0, .ref (a 0))]) hx hb d_Bk_badAt_54 hl (k := 0) rfl (pb_i1 _) (by decide) rfl (fun ls hl => ?_)
                refine lv_goto (tgt := 27) hx hb d_Bk_badAt_57 (by decide) ?_
                exact ih (i + 1) _ (by omega) (by omega) (by omega) (fun j g3 hj => by rcases Nat.lt_succ_iff_lt_or_eq.mp hj with z | z; exact hs j g3 z; subst z; exact fun z => z.2 h46) (lv_sub hl [0, 1] rfl)
              · refine pb_nz (tgt := 54) (by decide) hx hb d_Bk_badAt_49 (by decide) (fun c_5 => absurd c_5 (by decide)) (fun _ => ?_)
                refine lv_iload_n hx hb d_Bk_badAt_52 rfl (lv_at hl 0 rfl) ?_
                exact kr _ _ _ d_Bk_badAt_53 rfl (Or.inr (Or.inr (Or.inl ⟨hop1, h14, i, h3, by omega, h38, h46, hs, rfl⟩)))
            · refine pb_z (tgt := 54) (by decide) hx hb d_Bk_badAt_41 (by decide) (fun _ => ?_) (fun c_4 => absurd c_4 (by decide))
              refine lv_iinc (v := nI (i + 1)) (lv' := [(1, .int (nI (i + 1))), (0, .ref (a 0))]) hx hb d_Bk_badAt_54 hl (k := 0) rfl (pb_i1 _) (by decide) rfl (fun ls hl => ?_)
              refine lv_goto (tgt := 27) hx hb d_Bk_badAt_57 (by decide) ?_
              exact ih (i + 1) _ (by omega) (by omega) (by omega) (fun j g3 hj => by rcases Nat.lt_succ_iff_lt_or_eq.mp hj with z | z; exact hs j g3 z; subst z; exact fun z => h38 z.1) (lv_sub hl [0, 1] rfl)
      exact loop27 (n + 1) 3 _ (by omega) (by omega) (by omega) (fun j h3 hj => by omega) (lv_sub hl [0, 1] rfl)
    · refine pb_nz (tgt := 25) (by decide) hx hb d_Bk_badAt_17 (by decide) (fun c_2 => absurd c_2 (by decide)) (fun _ => ?_)
      refine lv_aload_n hx hb d_Bk_badAt_20 rfl (lv_at hl 0 rfl) ?_
      refine bk_g_turn C hP d_Bk_badAt_21 ?_
      exact kr _ _ _ d_Bk_badAt_24 rfl (Or.inr (Or.inl ⟨hop1, h14, rfl⟩))
  · refine lv_iconst (v := -1) hx hb d_Bk_badAt_7 (by decide +kernel) ?_
    exact kr _ _ _ d_Bk_badAt_8 rfl (Or.inl ⟨c_1, rfl⟩)
theorem pb_num1 {x : Int32} {v : Nat} (hv : v < 2 ^ 31) (h0 : ¬ x < nI 1) (h1 : x ≤ nI v) : ∃ j, 1 ≤ j ∧ j ≤ v ∧ x = nI j := by
  have hz : ¬ x < 0 := fun q => h0 (Int32.lt_trans q (by decide +kernel))
  obtain ⟨j, hj, rfl⟩ := pb_num hv hz (Int32.not_lt.mpr h1)
  refine ⟨j, ?_, hj, rfl⟩
  rcases Nat.eq_zero_or_pos j with q | q
  · subst q; exact absurd (by decide +kernel) h0
  · exact q
set_option maxHeartbeats 4000000 in
set_option maxRecDepth 100000 in
theorem c_Bk_poke (l : Launch) (D : va_G) (a : Nat → Nat) (ra : Nat → Nat) (k : Nat → ClassId) (n : Nat) (fs : Nat) (op : Nat) (tn : Int32) (mn : Nat) (sz : Nat) (fd : Nat → Nat) (pg : Nat → Nat) (en : Nat → Nat) (bl : Nat → Nat) (pl : Nat → Nat) (wa : Nat → Nat) (M : Nat → Nat → Nat) (x y w : Int32) (sz0 : Nat) (hn64 : n ≤ 64) (hn4 : 4 ≤ n) (hM : ∀ x j, M x j < 256) : Met l y_Bk_poke (pb_ws y_Bk_poke b_Bk_poke 4 (some .boolean)) (pb_rm 0 0 0) (pb_P D k [.ref (a 0), .int x, .int y, .int w] (bk_W a ra k n fs op tn mn sz fd pg en bl pl wa M) sz0) (pb_QI D (bk_W a ra k n fs op tn mn sz fd pg en bl pl wa M) sz0 (fun (r : Int32) (u : Nat × Nat × Nat × Nat) => pb_pokes n x y w r u) (fun (u : Nat × Nat × Nat × Nat) => if u.1 = 1 then bk_W a ra k n fs op tn mn sz fd pg en bl pl wa (pb_put1 M u.2.1 u.2.2.1 (M u.2.1 u.2.2.1 ^^^ u.2.2.2)) else bk_W a ra k n fs op tn mn sz fd pg en bl pl wa M)) 0 0 (va_A (bk_W a ra k n fs op tn mn sz fd pg en bl pl wa M) sz0) := by
  refine pb_mkI R_Bk rfl (by decide) (Nat.le_of_ble_eq_true rfl) ?_
  intro p e R s m args below meth c Q A ls C hRc hA hw hl kr
  obtain ⟨H, hH⟩ : ∃ H : Heap, H = s.heap := ⟨_, rfl⟩
  obtain ⟨locs, hL⟩ : ∃ L : List Loc, L = [] := ⟨_, rfl⟩
  have hw : pb_W D A s.heap (bk_W a ra k n fs op tn mn sz fd pg en bl pl wa M) H locs := by rw [hH, hL]; exact hw
  rw [show W p l e R s m args below meth c s.heap [] 0 0 Q (F0 m 0 ls []) = W p l e R s m args below meth c H locs 0 0 Q (F0 m 0 ls []) by rw [hH, hL]]
  clear hH hL
  obtain ⟨hx, hb, hml, hown, hG, hkn, hR1, hR2⟩ := id C
  have hl : lv_has ls 4 [(0, .ref (a 0)), (1, .int x), (2, .int y), (3, .int w)] := hl
  refine lv_iload_n hx hb d_Bk_poke_0 rfl (lv_at hl 1 rfl) ?_
  refine lv_if_lt (tgt := 35) hx hb d_Bk_poke_1 (by decide) (fun c_1 => ?_) (fun c_1 => ?_)
  · refine lv_iconst (v := nI 0) hx hb d_Bk_poke_35 (by decide +kernel) ?_
    exact kr _ _ _ _ _ (0, 0, 0, 0) d_Bk_poke_36 rfl hw (Or.inl ⟨Or.inl c_1, rfl, rfl⟩)
  · refine lv_iload_n hx hb d_Bk_poke_4 rfl (lv_at hl 1 rfl) ?_
    refine lv_aload_n hx hb d_Bk_poke_5 rfl (lv_at hl 0 rfl) ?_
    refine bk_g_store C hw.1 d_Bk_poke_6 ?_
    refine bk_len C hw.1 d_Bk_poke_9 ?_
    refine lv_icmp_ge (tgt := 35) hx hb d_Bk_poke_10 (by decide) (fun c_2 => ?_) (fun c_2 => ?_)
    · refine lv_iconst (v := nI 0) hx hb d_Bk_poke_35 (by decide +kernel) ?_
      exact kr _ _ _ _ _ (0, 0, 0, 0) d_Bk_poke_36 rfl hw (Or.inl ⟨Or.inr (Or.inl c_2), rfl, rfl⟩)
    · refine lv_iload_n hx hb d_Bk_poke_13 rfl (lv_at hl 2 rfl) ?_
      refine lv_if_lt (tgt := 35) hx hb d_Bk_poke_14 (by decide) (fun c_3 => ?_) (fun c_3 => ?_)
      · refine lv_iconst (v := nI 0) hx hb d_Bk_poke_35 (by decide +kernel) ?_
        exact kr _ _ _ _ _ (0, 0, 0, 0) d_Bk_poke_36 rfl hw (Or.inl ⟨Or.inr (Or.inr (Or.inl c_3)), rfl, rfl⟩)
      · refine lv_iload_n hx hb d_Bk_poke_17 rfl (lv_at hl 2 rfl) ?_
        refine lv_bipush (v := nI 64) hx hb d_Bk_poke_18 (by decide +kernel) ?_
        refine lv_icmp_ge (tgt := 35) hx hb d_Bk_poke_20 (by decide) (fun c_4 => ?_) (fun c_4 => ?_)
        · refine lv_iconst (v := nI 0) hx hb d_Bk_poke_35 (by decide +kernel) ?_
          exact kr _ _ _ _ _ (0, 0, 0, 0) d_Bk_poke_36 rfl hw (Or.inl ⟨Or.inr (Or.inr (Or.inr (Or.inl c_4))), rfl, rfl⟩)
        · refine lv_iload_n hx hb d_Bk_poke_23 rfl (lv_at hl 3 rfl) ?_
          refine lv_iconst (v := nI 1) hx hb d_Bk_poke_24 (by decide +kernel) ?_
          refine lv_icmp_lt (tgt := 35) hx hb d_Bk_poke_25 (by decide) (fun c_5 => ?_) (fun c_5 => ?_)
          · refine lv_iconst (v := nI 0) hx hb d_Bk_poke_35 (by decide +kernel) ?_
            exact kr _ _ _ _ _ (0, 0, 0, 0) d_Bk_poke_36 rfl hw (Or.inl ⟨Or.inr (Or.inr (Or.inr (Or.inr (Or.inl c_5)))), rfl, rfl⟩)
          · refine lv_iload_n hx hb d_Bk_poke_28 rfl (lv_at hl 3 rfl) ?_
            refine lv_sipush (v := nI 255) hx hb d_Bk_poke_29 (by decide +kernel) ?_
            refine lv_icmp_le (tgt := 37) hx hb d_Bk_poke_32 (by decide) (fun c_6 => ?_) (fun c_6 => ?_)
            · obtain ⟨b, hbn, rfl⟩ := pb_num_lt (by omega) c_1 (Int32.not_le.mp c_2)
              obtain ⟨i, hi, rfl⟩ := pb_num_lt (by decide) c_3 (Int32.not_le.mp c_4)
              obtain ⟨v, hv1, hv, rfl⟩ := pb_num1 (by decide) c_5 c_6
              refine lv_aload_n hx hb d_Bk_poke_37 rfl (lv_at hl 0 rfl) ?_
              refine bk_g_store C hw.1 d_Bk_poke_38 ?_
              refine lv_iload_n hx hb d_Bk_poke_41 rfl (lv_at hl 1 rfl) ?_
              refine bk_row C hw.1 (by omega) hn64 d_Bk_poke_42 ?_
              refine lv_iload_n hx hb d_Bk_poke_43 rfl (lv_at hl 2 rfl) ?_
              refine lv_dup2_11 hx hb d_Bk_poke_44 rfl rfl ?_
              refine bk_rld C hw.1 (by omega) (by omega) d_Bk_poke_45 ?_
              refine lv_iload_n hx hb d_Bk_poke_46 rfl (lv_at hl 3 rfl) ?_
              refine lv_i2b (v := sb_b v) hx hb d_Bk_poke_47 rfl ?_
              refine lv_ixor hx hb d_Bk_poke_48 ?_
              refine lv_i2b (v := sb_b (M b i ^^^ v)) hx hb d_Bk_poke_49 (pb_xorB (hM _ _) (by omega)) ?_
              refine bk_rst C hw (by omega) (by omega) (pb_i2b _) d_Bk_poke_50 (fun H locs hw => ?_)
              refine lv_iconst (v := nI 1) hx hb d_Bk_poke_51 (by decide +kernel) ?_
              exact kr _ _ _ _ _ (1, b, i, v) d_Bk_poke_52 rfl hw (Or.inr ⟨b, i, v, hbn, hi, hv1, by omega, rfl, rfl, rfl, rfl, rfl⟩)
            · refine lv_iconst (v := nI 0) hx hb d_Bk_poke_35 (by decide +kernel) ?_
              exact kr _ _ _ _ _ (0, 0, 0, 0) d_Bk_poke_36 rfl hw (Or.inl ⟨Or.inr (Or.inr (Or.inr (Or.inr (Or.inr ((Int32.not_le.mp c_6)))))), rfl, rfl⟩)
set_option maxHeartbeats 4000000 in
set_option maxRecDepth 100000 in
theorem c_Bk_crash (l : Launch) (D : va_G) (a : Nat → Nat) (ra : Nat → Nat) (k : Nat → ClassId) (n : Nat) (fs : Nat) (op : Nat) (tn : Int32) (mn : Nat) (sz : Nat) (fd : Nat → Nat) (pg : Nat → Nat) (en : Nat → Nat) (bl : Nat → Nat) (pl : Nat → Nat) (wa : Nat → Nat) (M : Nat → Nat → Nat) (t : Nat) (x : Int32) (sz0 : Nat) (hn64 : n ≤ 64) (hn4 : 4 ≤ n) (hM : ∀ x j, M x j < 256) (hop : op ≤ 1) (ho : op = 1 → tn = nI t ∧ pb_inv n t mn sz en bl pl wa) : Met l y_Bk_crash (pb_ws y_Bk_crash b_Bk_crash 2 (some .boolean)) (pb_rm 1 0 0) (pb_P D k [.ref (a 0), .int x] (bk_W a ra k n fs op tn mn sz fd pg en bl pl wa M) sz0) (pb_QI D (bk_W a ra k n fs op tn mn sz fd pg en bl pl wa M) sz0 (fun (r : Int32) (u : Nat × Nat) => pb_crashs op sz x r u) (fun (u : Nat × Nat) => if u.1 = 1 then bk_W a ra k n fs 0 tn mn 0 fd pg en bl pl wa (pb_back bl pl wa u.2 (sz - u.2) M) else bk_W a ra k n fs op tn mn sz fd pg en bl pl wa M)) 0 0 (va_A (bk_W a ra k n fs op tn mn sz fd pg en bl pl wa M) sz0) := by
  refine pb_mkI R_Bk rfl (by decide) (Nat.le_of_ble_eq_true rfl) ?_
  intro p e R s m args below meth c Q A ls C hRc hA hw hl kr
  obtain ⟨H, hH⟩ : ∃ H : Heap, H = s.heap := ⟨_, rfl⟩
  obtain ⟨locs, hL⟩ : ∃ L : List Loc, L = [] := ⟨_, rfl⟩
  have hw : pb_W D A s.heap (bk_W a ra k n fs op tn mn sz fd pg en bl pl wa M) H locs := by rw [hH, hL]; exact hw
  rw [show W p l e R s m args below meth c s.heap [] 0 0 Q (F0 m 0 ls []) = W p l e R s m args below meth c H locs 0 0 Q (F0 m 0 ls []) by rw [hH, hL]]
  clear hH hL
  obtain ⟨hx, hb, hml, hown, hG, hkn, hR1, hR2⟩ := id C
  have hl : lv_has ls 2 [(0, .ref (a 0)), (1, .int x)] := hl
  refine lv_aload_n hx hb d_Bk_crash_0 rfl (lv_at hl 0 rfl) ?_
  refine bk_g_isOpen C hw.1 d_Bk_crash_1 ?_
  refine pb_z (tgt := 32) (by omega) hx hb d_Bk_crash_4 (by decide) (fun c_1 => ?_) (fun c_1 => ?_)
  · refine lv_iconst (v := nI 0) hx hb d_Bk_crash_32 (by decide +kernel) ?_
    exact kr _ _ _ _ _ (0, 0) d_Bk_crash_33 rfl hw (Or.inl ⟨Or.inl c_1, rfl, rfl⟩)
  · obtain ⟨rfl, ht, hmn, hen0, hsz, hlog⟩ := ho (by omega)
    have hen : ∀ q, q < mn → en q < 64 := fun q h => by have := hen0 q h; omega
    have hop1 : op = 1 := by omega
    refine lv_aload_n hx hb d_Bk_crash_7 rfl (lv_at hl 0 rfl) ?_
    refine bk_g_pen C hw.1 d_Bk_crash_8 ?_
    refine bk_g_size C hw.1 d_Bk_crash_11 ?_
    refine pb_z (tgt := 32) (by omega) hx hb d_Bk_crash_14 (by decide) (fun c_2 => ?_) (fun c_2 => ?_)
    · refine lv_iconst (v := nI 0) hx hb d_Bk_crash_32 (by decide +kernel) ?_
      exact kr _ _ _ _ _ (0, 0) d_Bk_crash_33 rfl hw (Or.inl ⟨Or.inr (Or.inl c_2), rfl, rfl⟩)
    · refine lv_iload_n hx hb d_Bk_crash_17 rfl (lv_at hl 1 rfl) ?_
      refine lv_if_lt (tgt := 32) hx hb d_Bk_crash_18 (by decide) (fun c_3 => ?_) (fun c_3 => ?_)
      · refine lv_iconst (v := nI 0) hx hb d_Bk_crash_32 (by decide +kernel) ?_
        exact kr _ _ _ _ _ (0, 0) d_Bk_crash_33 rfl hw (Or.inl ⟨Or.inr (Or.inr (Or.inl c_3)), rfl, rfl⟩)
      · refine lv_iload_n hx hb d_Bk_crash_21 rfl (lv_at hl 1 rfl) ?_
        refine lv_aload_n hx hb d_Bk_crash_22 rfl (lv_at hl 0 rfl) ?_
        refine bk_g_pen C hw.1 d_Bk_crash_23 ?_
        refine bk_g_size C hw.1 d_Bk_crash_26 ?_
        refine lv_icmp_le (tgt := 34) hx hb d_Bk_crash_29 (by decide) (fun c_4 => ?_) (fun c_4 => ?_)
        · obtain ⟨kp, hkp, rfl⟩ := pb_num (show sz < 2 ^ 31 by omega) c_3 (Int32.not_lt.mpr c_4)
          refine lv_aload_n hx hb d_Bk_crash_34 rfl (lv_at hl 0 rfl) ?_
          refine bk_g_pen C hw.1 d_Bk_crash_35 ?_
          refine lv_iload_n hx hb d_Bk_crash_38 rfl (lv_at hl 1 rfl) ?_
          refine pb_vV (As := [.int (nI kp)]) (rest := []) C hA hw k_Pn_takeBack m_173 (c_Pn_takeBack l D a ra k n fs op (nI t) mn sz fd pg en bl pl wa M kp _ hn64 (by omega) (by omega) hlog) rfl hl.1 1 1 rfl rfl rfl ⟨by decide, by decide⟩ ⟨Nat.zero_le _, Nat.zero_le _⟩ rfl (Nat.le_of_ble_eq_true rfl) d_Bk_crash_39 (fun u39 H locs h39 hw => ?_)
          refine lv_aload_n hx hb d_Bk_crash_42 rfl (lv_at hl 0 rfl) ?_
          refine lv_iconst (v := nI 0) hx hb d_Bk_crash_43 (by decide +kernel) ?_
          refine bk_p_isOpen C hw (by omega) d_Bk_crash_44 (fun H locs hw => ?_)
          refine lv_iconst (v := nI 1) hx hb d_Bk_crash_47 (by decide +kernel) ?_
          exact kr _ _ _ _ _ (1, kp) d_Bk_crash_48 rfl hw (Or.inr ⟨hop1, c_2, kp, hkp, rfl, rfl, rfl⟩)
        · refine lv_iconst (v := nI 0) hx hb d_Bk_crash_32 (by decide +kernel) ?_
          exact kr _ _ _ _ _ (0, 0) d_Bk_crash_33 rfl hw (Or.inl ⟨Or.inr (Or.inr (Or.inr (Int32.not_le.mp c_4))), rfl, rfl⟩)
set_option maxHeartbeats 4000000 in
set_option maxRecDepth 100000 in
theorem c_Bk_drop (l : Launch) (D : va_G) (a : Nat → Nat) (ra : Nat → Nat) (k : Nat → ClassId) (n : Nat) (fs : Nat) (op : Nat) (tn : Int32) (mn : Nat) (sz : Nat) (fd : Nat → Nat) (pg : Nat → Nat) (en : Nat → Nat) (bl : Nat → Nat) (pl : Nat → Nat) (wa : Nat → Nat) (M : Nat → Nat → Nat) (t : Nat) (x : Int32) (sz0 : Nat) (hn64 : n ≤ 64) (hn4 : 4 ≤ n) (hM : ∀ x j, M x j < 256) (hpg : ∀ j, pg j < 256) (hop : op ≤ 1) (ho : op = 1 → tn = nI t ∧ pb_inv n t mn sz en bl pl wa) : Met l y_Bk_drop (pb_ws y_Bk_drop b_Bk_drop 3 (some .boolean)) (pb_rm 4 0 0) (pb_P D k [.ref (a 0), .int x] (bk_W a ra k n fs op tn mn sz fd pg en bl pl wa M) sz0) (pb_QI D (bk_W a ra k n fs op tn mn sz fd pg en bl pl wa M) sz0 (fun (r : Int32) (u : (Nat × Nat) × (Nat → Nat)) => pb_drops op mn x r u.1 ∧ ∀ j, u.2 j < 256) (fun (u : (Nat × Nat) × (Nat → Nat)) => if u.1.1 = 1 then bk_W a ra k n fs op (nI (3 - t)) (mn - 1) 65 fd u.2 (pb_gone en u.1.2 mn) (pb_turnb bl 0 t) (pb_turnp pl 0) (pb_turnw wa M 0 t (pb_seal (pb_root mn en u.1.2))) (pb_turnM M t (pb_seal (pb_root mn en u.1.2))) else bk_W a ra k n fs op tn mn sz fd u.2 en bl pl wa M)) 0 0 (va_A (bk_W a ra k n fs op tn mn sz fd pg en bl pl wa M) sz0) := by
  refine pb_mkI R_Bk rfl (by decide) (Nat.le_of_ble_eq_true rfl) ?_
  intro p e R s m args below meth c Q A ls C hRc hA hw hl kr
  obtain ⟨H, hH⟩ : ∃ H : Heap, H = s.heap := ⟨_, rfl⟩
  obtain ⟨locs, hL⟩ : ∃ L : List Loc, L = [] := ⟨_, rfl⟩
  have hw : pb_W D A s.heap (bk_W a ra k n fs op tn mn sz fd pg en bl pl wa M) H locs := by rw [hH, hL]; exact hw
  rw [show W p l e R s m args below meth c s.heap [] 0 0 Q (F0 m 0 ls []) = W p l e R s m args below meth c H locs 0 0 Q (F0 m 0 ls []) by rw [hH, hL]]
  clear hH hL
  obtain ⟨hx, hb, hml, hown, hG, hkn, hR1, hR2⟩ := id C
  have hl : lv_has ls 3 [(0, .ref (a 0)), (1, .int x)] := hl
  refine lv_aload_n hx hb d_Bk_drop_0 rfl (lv_at hl 0 rfl) ?_
  refine bk_g_isOpen C hw.1 d_Bk_drop_1 ?_
  refine pb_z (tgt := 19) (by omega) hx hb d_Bk_drop_4 (by decide) (fun c_1 => ?_) (fun c_1 => ?_)
  · refine lv_iconst (v := nI 0) hx hb d_Bk_drop_19 (by decide +kernel) ?_
    exact kr _ _ _ _ _ ((0, 0), pg) d_Bk_drop_20 rfl hw ⟨Or.inl ⟨Or.inl c_1, rfl, rfl⟩, hpg⟩
  · obtain ⟨rfl, ht, hmn, hen0, hsz, hlog⟩ := ho (by omega)
    have hen : ∀ q, q < mn → en q < 64 := fun q h => by have := hen0 q h; omega
    have hop1 : op = 1 := by omega
    refine lv_iload_n hx hb d_Bk_drop_7 rfl (lv_at hl 1 rfl) ?_
    refine lv_if_lt (tgt := 19) hx hb d_Bk_drop_8 (by decide) (fun c_2 => ?_) (fun c_2 => ?_)
    · refine lv_iconst (v := nI 0) hx hb d_Bk_drop_19 (by decide +kernel) ?_
      exact kr _ _ _ _ _ ((0, 0), pg) d_Bk_drop_20 rfl hw ⟨Or.inl ⟨Or.inr (Or.inl c_2), rfl, rfl⟩, hpg⟩
    · refine lv_iload_n hx hb d_Bk_drop_11 rfl (lv_at hl 1 rfl) ?_
      refine lv_aload_n hx hb d_Bk_drop_12 rfl (lv_at hl 0 rfl) ?_
      refine bk_g_many C hw.1 d_Bk_drop_13 ?_
      refine lv_icmp_lt (tgt := 21) hx hb d_Bk_drop_16 (by decide) (fun c_3 => ?_) (fun c_3 => ?_)
      · obtain ⟨q, hq, rfl⟩ := pb_num_lt (by omega) c_2 c_3
        have hbu : ∀ z, z < 64 → (nI z = nI q ↔ z = q) := fun z hz => nI_eq (by omega) (by omega)
        refine lv_aload_n hx hb d_Bk_drop_21 rfl (lv_at hl 0 rfl) ?_
        refine lv_iload_n hx hb d_Bk_drop_22 rfl (lv_at hl 1 rfl) ?_
        refine pb_vV (As := [.int (nI q)]) (rest := []) C hA hw k_Bk_fillRoot m_53 (c_Bk_fillRoot l D a ra k n fs op (nI t) mn sz fd pg en bl pl wa M (nI q) q _ hmn (fun z hz => by have := hen z hz; omega) hpg hbu) rfl hl.1 0 0 rfl rfl rfl ⟨by decide, by decide⟩ ⟨Nat.zero_le _, Nat.zero_le _⟩ rfl (Nat.le_of_ble_eq_true rfl) d_Bk_drop_23 (fun u23 H locs h23 hw => ?_)
        obtain ⟨h23a, h23b⟩ := h23
        refine lv_aload_n hx hb d_Bk_drop_26 rfl (lv_at hl 0 rfl) ?_
        refine lv_dup hx hb d_Bk_drop_27 rfl ?_
        refine bk_g_many C hw.1 d_Bk_drop_28 ?_
        refine lv_iconst (v := nI 1) hx hb d_Bk_drop_31 (by decide +kernel) ?_
        refine pb_sub (by omega) hx hb d_Bk_drop_32 ?_
        refine bk_p_many C hw d_Bk_drop_33 (fun H locs hw => ?_)
        refine lv_iload_n hx hb d_Bk_drop_36 rfl (lv_at hl 1 rfl) ?_
        refine lv_istore_n (lv' := [(2, .int (nI q)), (0, .ref (a 0)), (1, .int (nI q))]) hx hb d_Bk_drop_37 rfl hl (by decide) rfl (fun ls hl => ?_)
        have loop38 : ∀ (fu : Nat) (p2 i : Nat) (H : Heap) (locs : List Loc) (ls : Array Slot), (p2 = q + i) → (p2 ≤ mn - 1) → (mn ≤ p2 + fu) → pb_W D A s.heap (bk_W a ra k n fs op (nI t) (mn - 1) sz fd u23 (pb_fill en q i (fun j => en (q + j + 1))) bl pl wa M) H locs → lv_has ls 3 [(2, .int (nI p2)), (0, .ref (a 0)), (1, .int (nI q))] → W p l e R s m args below meth c H locs 0 0 Q (F0 m 38 ls []) := by
          intro fu
          induction fu with
          | zero =>
            intro p2 i H locs ls hp h1 hn
            exfalso
            omega
          | succ fu ih =>
            intro p2 i H locs ls hp h1 hn hw hl
            refine lv_iload_n hx hb d_Bk_drop_38 rfl (lv_at hl 0 rfl) ?_
            refine lv_aload_n hx hb d_Bk_drop_39 rfl (lv_at hl 1 rfl) ?_
            refine bk_g_many C hw.1 d_Bk_drop_40 ?_
            refine pb_ge (tgt := 66) (by omega) (by omega) hx hb d_Bk_drop_43 (by decide) (fun c_4 => ?_) (fun c_4 => ?_)
            · refine lv_aload_n hx hb d_Bk_drop_66 rfl (lv_at hl 1 rfl) ?_
              refine bk_g_pen C hw.1 d_Bk_drop_67 ?_
              refine lv_iconst (v := nI 0) hx hb d_Bk_drop_70 (by decide +kernel) ?_
              refine bk_p_size C hw d_Bk_drop_71 (fun H locs hw => ?_)
              refine lv_aload_n hx hb d_Bk_drop_74 rfl (lv_at hl 1 rfl) ?_
              refine pb_vV (As := []) (rest := []) C hA hw k_Bk_turnTo m_148 (c_Bk_turnTo l D a ra k n fs op (mn - 1) 0 fd u23 (pb_fill en q i (fun j => en (q + j + 1))) bl pl wa M t _ hn64 hn4 ht (by omega)) rfl hl.1 0 0 rfl rfl rfl ⟨by decide, by decide⟩ ⟨Nat.zero_le _, Nat.zero_le _⟩ rfl (Nat.le_of_ble_eq_true rfl) d_Bk_drop_75 (fun u75 H locs h75 hw => ?_)
              refine lv_iconst (v := nI 1) hx hb d_Bk_drop_78 (by decide +kernel) ?_
              have e1 : pb_turnM M t u23 = pb_turnM M t (pb_seal (pb_root mn en q)) := by unfold pb_turnM; rw [pb_rowf_congr h23a]
              have e2 : pb_turnw wa M 0 t u23 = pb_turnw wa M 0 t (pb_seal (pb_root mn en q)) := by unfold pb_turnw; rw [pb_rowf_congr h23a]
              have e3 : pb_fill en q i (fun j => en (q + j + 1)) = pb_gone en q mn := by unfold pb_gone; rw [show i = mn - 1 - q by omega]
              rw [e1, e2, e3] at hw
              exact kr _ _ _ _ _ ((1, q), u23) d_Bk_drop_79 rfl hw ⟨Or.inr ⟨hop1, q, hq, rfl, rfl, rfl⟩, h23b⟩
            · refine lv_aload_n hx hb d_Bk_drop_46 rfl (lv_at hl 1 rfl) ?_
              refine bk_g_entries C hw.1 d_Bk_drop_47 ?_
              refine lv_iload_n hx hb d_Bk_drop_50 rfl (lv_at hl 0 rfl) ?_
              refine lv_aload_n hx hb d_Bk_drop_51 rfl (lv_at hl 1 rfl) ?_
              refine bk_g_entries C hw.1 d_Bk_drop_52 ?_
              refine lv_iload_n hx hb d_Bk_drop_55 rfl (lv_at hl 0 rfl) ?_
              refine lv_iconst (v := nI 1) hx hb d_Bk_drop_56 (by decide +kernel) ?_
              refine pb_add hx hb d_Bk_drop_57 ?_
              refine bk_l_entries C hw.1 (by omega) d_Bk_drop_58 ?_
              refine bk_s_entries C hw (by omega) d_Bk_drop_59 (fun H locs hw => ?_)
              refine lv_iinc (v := nI (p2 + 1)) (lv' := [(2, .int (nI (p2 + 1))), (0, .ref (a 0)), (1, .int (nI q))]) hx hb d_Bk_drop_60 hl (k := 0) rfl (pb_i1 _) (by decide) rfl (fun ls hl => ?_)
              refine lv_goto (tgt := 38) hx hb d_Bk_drop_63 (by decide) ?_
              exact ih (p2 + 1) (i + 1) _ _ _ (by omega) (by omega) (by omega) (by rw [pb_fill_out (q := p2 + 1) (by omega), hp] at hw; rw [← pb_fill_s en q i]; exact hw) (lv_sub hl [0, 1, 2] rfl)
        exact loop38 mn q 0 _ _ _ rfl (by omega) (by omega) (by rw [pb_fill_0]; exact hw) (lv_sub hl [0, 1, 2] rfl)
      · refine lv_iconst (v := nI 0) hx hb d_Bk_drop_19 (by decide +kernel) ?_
        exact kr _ _ _ _ _ ((0, 0), pg) d_Bk_drop_20 rfl hw ⟨Or.inl ⟨Or.inr (Or.inr (Int32.not_lt.mp c_3)), rfl, rfl⟩, hpg⟩
set_option maxHeartbeats 4000000 in
set_option maxRecDepth 100000 in
theorem c_Bk_put (l : Launch) (D : va_G) (a : Nat → Nat) (ra : Nat → Nat) (k : Nat → ClassId) (n : Nat) (fs : Nat) (op : Nat) (tn : Int32) (mn : Nat) (sz : Nat) (fd : Nat → Nat) (pg : Nat → Nat) (en : Nat → Nat) (bl : Nat → Nat) (pl : Nat → Nat) (wa : Nat → Nat) (M : Nat → Nat → Nat) (t : Nat) (x : Int32) (sz0 : Nat) (hn64 : n ≤ 64) (hn4 : 4 ≤ n) (hM : ∀ x j, M x j < 256) (hfs : fs ≤ 48) (hfd : ∀ j, fd j < 256) (hpg : ∀ j, pg j < 256) (hop : op ≤ 1) (ho : op = 1 → tn = nI t ∧ pb_inv n t mn sz en bl pl wa) : Met l y_Bk_put (pb_ws y_Bk_put b_Bk_put 4 (some .int)) (pb_rm 4 0 0) (pb_P D k [.ref (a 0), .int x] (bk_W a ra k n fs op tn mn sz fd pg en bl pl wa M) sz0) (pb_QI D (bk_W a ra k n fs op tn mn sz fd pg en bl pl wa M) sz0 (fun (r : Int32) (u : (Nat × Nat × Nat) × (Nat → Nat)) => pb_puts n op mn fs fd en M x r u.1 ∧ ∀ j, u.2 j < 256) (fun (u : (Nat × Nat × Nat) × (Nat → Nat)) => if u.1.1 = 2 then bk_W a ra k n 0 op (nI (3 - t)) (mn + 1) 129 fd u.2 (va_up en mn u.1.2.2) (pb_turnb (pb_fill bl 0 64 (fun _ => u.1.2.2)) 64 t) (pb_turnp (pb_fill pl 0 64 (fun j => j)) 64) (pb_turnw (pb_fill wa 0 64 (fun j => M u.1.2.2 j)) (pb_rowf M u.1.2.2 64 (pb_pe u.1.2.1 fs fd)) 64 t (pb_pr mn en u.1.2.2)) (pb_turnM (pb_rowf M u.1.2.2 64 (pb_pe u.1.2.1 fs fd)) t (pb_pr mn en u.1.2.2)) else if u.1.1 = 1 then bk_W a ra k n 0 op tn mn sz fd u.2 en bl pl wa M else bk_W a ra k n fs op tn mn sz fd u.2 en bl pl wa M)) 0 0 (va_A (bk_W a ra k n fs op tn mn sz fd pg en bl pl wa M) sz0) := by
  refine pb_mkI R_Bk rfl (by decide) (Nat.le_of_ble_eq_true rfl) ?_
  intro p e R s m args below meth c Q A ls C hRc hA hw hl kr
  obtain ⟨H, hH⟩ : ∃ H : Heap, H = s.heap := ⟨_, rfl⟩
  obtain ⟨locs, hL⟩ : ∃ L : List Loc, L = [] := ⟨_, rfl⟩
  have hw : pb_W D A s.heap (bk_W a ra k n fs op tn mn sz fd pg en bl pl wa M) H locs := by rw [hH, hL]; exact hw
  rw [show W p l e R s m args below meth c s.heap [] 0 0 Q (F0 m 0 ls []) = W p l e R s m args below meth c H locs 0 0 Q (F0 m 0 ls []) by rw [hH, hL]]
  clear hH hL
  obtain ⟨hx, hb, hml, hown, hG, hkn, hR1, hR2⟩ := id C
  have hl : lv_has ls 4 [(0, .ref (a 0)), (1, .int x)] := hl
  refine lv_aload_n hx hb d_Bk_put_0 rfl (lv_at hl 0 rfl) ?_
  refine bk_g_isOpen C hw.1 d_Bk_put_1 ?_
  refine pb_z (tgt := 24) (by omega) hx hb d_Bk_put_4 (by decide) (fun c_1 => ?_) (fun c_1 => ?_)
  · refine lv_iconst (v := -1) hx hb d_Bk_put_24 (by decide +kernel) ?_
    exact kr _ _ _ _ _ ((0, 0, 0), pg) d_Bk_put_25 rfl hw ⟨Or.inl ⟨Or.inl c_1, rfl, rfl⟩, hpg⟩
  · obtain ⟨rfl, ht, hmn, hen0, hsz, hlog⟩ := ho (by omega)
    have hen : ∀ q, q < mn → en q < 64 := fun q h => by have := hen0 q h; omega
    have hop1 : op = 1 := by omega
    refine lv_iload_n hx hb d_Bk_put_7 rfl (lv_at hl 1 rfl) ?_
    refine lv_if_lt (tgt := 24) hx hb d_Bk_put_8 (by decide) (fun c_2 => ?_) (fun c_2 => ?_)
    · refine lv_iconst (v := -1) hx hb d_Bk_put_24 (by decide +kernel) ?_
      exact kr _ _ _ _ _ ((0, 0, 0), pg) d_Bk_put_25 rfl hw ⟨Or.inl ⟨Or.inr (Or.inl c_2), rfl, rfl⟩, hpg⟩
    · refine lv_iload_n hx hb d_Bk_put_11 rfl (lv_at hl 1 rfl) ?_
      refine lv_ldc (v := (65535 : Int32)) hx hb hown (hG _ m_131) d_Bk_put_12 ?_
      refine pb_top (show (65535 : Int32) = nI 65535 by decide +kernel) ?_
      refine lv_icmp_gt (tgt := 24) hx hb d_Bk_put_14 (by decide) (fun c_3 => ?_) (fun c_3 => ?_)
      · refine lv_iconst (v := -1) hx hb d_Bk_put_24 (by decide +kernel) ?_
        exact kr _ _ _ _ _ ((0, 0, 0), pg) d_Bk_put_25 rfl hw ⟨Or.inl ⟨Or.inr (Or.inr (Or.inl c_3)), rfl, rfl⟩, hpg⟩
      · obtain ⟨v, hv, rfl⟩ := pb_num (by decide) c_2 c_3
        refine lv_aload_n hx hb d_Bk_put_17 rfl (lv_at hl 0 rfl) ?_
        refine bk_g_fedSize C hw.1 d_Bk_put_18 ?_
        refine pb_nz (tgt := 26) (by omega) hx hb d_Bk_put_21 (by decide) (fun c_4 => ?_) (fun c_4 => ?_)
        · refine lv_iconst (v := nI 0) hx hb d_Bk_put_26 (by decide +kernel) ?_
          refine lv_istore_n (lv' := [(2, .int (nI 0)), (0, .ref (a 0)), (1, .int (nI v))]) hx hb d_Bk_put_27 rfl hl (by decide) rfl (fun ls hl => ?_)
          have loop28 : ∀ (fu : Nat) (q : Nat) (H : Heap) (locs : List Loc) (ls : Array Slot), (q ≤ mn) → (mn + 1 ≤ q + fu) → (∀ q', q' < q → ¬ pb_same M fs fd (en q')) → pb_W D A s.heap (bk_W a ra k n fs op (nI t) mn sz fd pg en bl pl wa M) H locs → lv_has ls 4 [(2, .int (nI q)), (0, .ref (a 0)), (1, .int (nI v))] → W p l e R s m args below meth c H locs 0 0 Q (F0 m 28 ls []) := by
            intro fu
            induction fu with
            | zero =>
              intro q H locs ls h1 hn hs
              exfalso
              omega
            | succ fu ih =>
              intro q H locs ls h1 hn hs hw hl
              refine lv_iload_n hx hb d_Bk_put_28 rfl (lv_at hl 0 rfl) ?_
              refine lv_aload_n hx hb d_Bk_put_29 rfl (lv_at hl 1 rfl) ?_
              refine bk_g_many C hw.1 d_Bk_put_30 ?_
              refine pb_ge (tgt := 65) (by omega) (by omega) hx hb d_Bk_put_33 (by decide) (fun c_5 => ?_) (fun c_5 => ?_)
              · refine lv_aload_n hx hb d_Bk_put_65 rfl (lv_at hl 1 rfl) ?_
                refine pb_vR (As := []) (rest := []) C hw.1 k_Bk_freeBlock m_136 (c_Bk_freeBlock l D a ra k n fs op (nI t) mn sz fd pg en bl pl wa M hn64 hn4 hmn hen) rfl hl.1 0 0 rfl rfl rfl ⟨by decide, by decide⟩ ⟨Nat.zero_le _, Nat.zero_le _⟩ rfl (Nat.le_of_ble_eq_true rfl) d_Bk_put_66 (fun r66 h66 => ?_)
                rcases h66 with ⟨fb, rfl, h66⟩ | ⟨rfl, h66⟩
                · refine lv_istore_n (lv' := [(2, .int (nI fb)), (0, .ref (a 0)), (1, .int (nI v))]) hx hb d_Bk_put_69 rfl hl (by decide) rfl (fun ls hl => ?_)
                  refine lv_aload_n hx hb d_Bk_put_70 rfl (lv_at hl 1 rfl) ?_
                  refine bk_g_many C hw.1 d_Bk_put_71 ?_
                  refine lv_bipush (v := nI 40) hx hb d_Bk_put_74 (by decide +kernel) ?_
                  refine pb_eq (tgt := 83) (by omega) (by omega) hx hb d_Bk_put_76 (by decide) (fun c_6 => ?_) (fun c_6 => ?_)
                  · refine lv_iconst (v := -1) hx hb d_Bk_put_83 (by decide +kernel) ?_
                    exact kr _ _ _ _ _ ((0, 0, 0), pg) d_Bk_put_84 rfl hw ⟨Or.inr ⟨hop1, c_4, v, by omega, rfl, Or.inr (Or.inl ⟨fun z hz => hs z (by omega), Or.inl c_6, rfl, rfl⟩)⟩, hpg⟩
                  · refine lv_iload_n hx hb d_Bk_put_79 rfl (lv_at hl 0 rfl) ?_
                    refine lv_if_ge (tgt := 85) hx hb d_Bk_put_80 (by decide) (fun _ => ?_) (fun c_7 => absurd (nI_pos' (by have := h66.2.1; omega)) c_7)
                    have hfr := h66
                    obtain ⟨f3, fn, -, -⟩ := hfr
                    have hen2 : ∀ z, z < mn + 1 → va_up en mn fb z < 256 := by
                      intro z hz
                      unfold va_up
                      split
                      · omega
                      · have := hen z (by omega); omega
                    refine lv_aload_n hx hb d_Bk_put_85 rfl (lv_at hl 1 rfl) ?_
                    refine pb_vV (As := []) (rest := []) C hA hw k_Bk_clear m_57 (c_Bk_clear l D a ra k n fs op (nI t) mn sz fd pg en bl pl wa M _) rfl hl.1 0 0 rfl rfl rfl ⟨by decide, by decide⟩ ⟨Nat.zero_le _, Nat.zero_le _⟩ rfl (Nat.le_of_ble_eq_true rfl) d_Bk_put_86 (fun u86 H locs h86 hw => ?_)
                    refine lv_aload_n hx hb d_Bk_put_89 rfl (lv_at hl 1 rfl) ?_
                    refine bk_g_page C hw.1 d_Bk_put_90 ?_
                    refine lv_iconst (v := nI 0) hx hb d_Bk_put_93 (by decide +kernel) ?_
                    refine lv_iload_n hx hb d_Bk_put_94 rfl (lv_at hl 2 rfl) ?_
                    refine lv_i2b (v := sb_b (v % 256)) hx hb d_Bk_put_95 (pb_bmod v) ?_
                    refine bk_s_page C hw (by omega) (pb_i2b _) d_Bk_put_96 (fun H locs hw => ?_)
                    refine lv_aload_n hx hb d_Bk_put_97 rfl (lv_at hl 1 rfl) ?_
                    refine bk_g_page C hw.1 d_Bk_put_98 ?_
                    refine lv_iconst (v := nI 1) hx hb d_Bk_put_101 (by decide +kernel) ?_
                    refine lv_iload_n hx hb d_Bk_put_102 rfl (lv_at hl 2 rfl) ?_
                    refine lv_bipush (v := nI 8) hx hb d_Bk_put_103 (by decide +kernel) ?_
                    refine lv_ishr hx hb d_Bk_put_105 ?_
                    refine pb_top (show (nI v) >>> ((nI 8) &&& 31) = nI (v / 256) from (pk_shrN (by omega) _ 8 (by decide +kernel))) ?_
                    refine lv_i2b (v := sb_b (v / 256)) hx hb d_Bk_put_106 rfl ?_
                    refine bk_s_page C hw (by omega) (pb_i2b _) d_Bk_put_107 (fun H locs hw => ?_)
                    refine lv_aload_n hx hb d_Bk_put_108 rfl (lv_at hl 1 rfl) ?_
                    refine bk_g_page C hw.1 d_Bk_put_109 ?_
                    refine lv_iconst (v := nI 2) hx hb d_Bk_put_112 (by decide +kernel) ?_
                    refine lv_aload_n hx hb d_Bk_put_113 rfl (lv_at hl 1 rfl) ?_
                    refine bk_g_fedSize C hw.1 d_Bk_put_114 ?_
                    refine lv_i2b (v := sb_b fs) hx hb d_Bk_put_117 rfl ?_
                    refine bk_s_page C hw (by omega) (pb_i2b _) d_Bk_put_118 (fun H locs hw => ?_)
                    refine lv_iconst (v := nI 0) hx hb d_Bk_put_119 (by decide +kernel) ?_
                    refine lv_istore_n (lv' := [(3, .int (nI 0)), (2, .int (nI fb)), (0, .ref (a 0)), (1, .int (nI v))]) hx hb d_Bk_put_120 rfl hl (by decide) rfl (fun ls hl => ?_)
                    have loop121 : ∀ (fv : Nat) (i : Nat) (H : Heap) (locs : List Loc) (ls : Array Slot), (i ≤ fs) → (fs + 1 ≤ i + fv) → pb_W D A s.heap (bk_W a ra k n fs op (nI t) mn sz fd (pb_fill (va_up (va_up (va_up (pb_fill pg 0 64 (fun _ => 0)) 0 (v % 256)) 1 (v / 256)) 2 fs) 3 i fd) en bl pl wa M) H locs → lv_has ls 4 [(3, .int (nI i)), (2, .int (nI fb)), (0, .ref (a 0)), (1, .int (nI v))] → W p l e R s m args below meth c H locs 0 0 Q (F0 m 121 ls []) := by
                      intro fv
                      induction fv with
                      | zero =>
                        intro i H locs ls g1 gn
                        exfalso
                        omega
                      | succ fv ih2 =>
                        intro i H locs ls g1 gn hw hl
                        refine lv_iload_n hx hb d_Bk_put_121 rfl (lv_at hl 0 rfl) ?_
                        refine lv_aload_n hx hb d_Bk_put_122 rfl (lv_at hl 2 rfl) ?_
                        refine bk_g_fedSize C hw.1 d_Bk_put_123 ?_
                        refine pb_ge (tgt := 149) (by omega) (by omega) hx hb d_Bk_put_126 (by decide) (fun c_8 => ?_) (fun c_8 => ?_)
                        · refine lv_aload_n hx hb d_Bk_put_149 rfl (lv_at hl 2 rfl) ?_
                          refine lv_iconst (v := nI 0) hx hb d_Bk_put_150 (by decide +kernel) ?_
                          refine bk_p_fedSize C hw d_Bk_put_151 (fun H locs hw => ?_)
                          obtain ⟨PG, hPG⟩ : ∃ PG, PG = pb_fill (va_up (va_up (va_up (pb_fill pg 0 64 (fun _ => 0)) 0 (v % 256)) 1 (v / 256)) 2 fs) 3 i fd := ⟨_, rfl⟩
                          rw [← hPG] at hw
                          have hPG2 : ∀ j, j < 64 → PG j = pb_ent v fs fd j := by
                            intro j hj
                            rw [hPG, show i = fs by omega]
                            unfold pb_ent pb_fill va_up
                            by_cases g0 : j = 0
                            · subst g0; simp
                            · by_cases g1 : j = 1
                              · subst g1; simp
                              · by_cases g2 : j = 2
                                · subst g2; simp
                                · by_cases g3 : j < 3 + fs
                                  · rw [if_pos (by omega), if_neg g0, if_neg g1, if_neg g2, if_pos g3]
                                  · rw [if_neg (by omega), if_neg g0, if_neg g1, if_neg g2, if_neg g3]
                                    simp [g0, g1, g2, hj]
                          have hPG3 : ∀ j, PG j < 256 := by
                            intro j
                            rw [hPG]
                            unfold pb_fill va_up
                            split
                            · exact hfd _
                            · split
                              · omega
                              · split
                                · omega
                                · split
                                  · omega
                                  · dsimp only
                                    split
                                    · exact Nat.zero_lt_succ 255
                                    · exact hpg j
                          clear hPG
                          refine lv_aload_n hx hb d_Bk_put_154 rfl (lv_at hl 2 rfl) ?_
                          refine pb_vV (As := []) (rest := []) C hA hw k_Bk_seal m_61 (c_Bk_seal l D a ra k n 0 op (nI t) mn sz fd PG en bl pl wa M _ hPG3) rfl hl.1 0 0 rfl rfl rfl ⟨by decide, by decide⟩ ⟨Nat.zero_le _, Nat.zero_le _⟩ rfl (Nat.le_of_ble_eq_true rfl) d_Bk_put_155 (fun u155 H locs h155 hw => ?_)
                          refine lv_aload_n hx hb d_Bk_put_158 rfl (lv_at hl 2 rfl) ?_
                          refine bk_g_pen C hw.1 d_Bk_put_159 ?_
                          refine lv_iconst (v := nI 0) hx hb d_Bk_put_162 (by decide +kernel) ?_
                          refine bk_p_size C hw d_Bk_put_163 (fun H locs hw => ?_)
                          refine lv_aload_n hx hb d_Bk_put_166 rfl (lv_at hl 2 rfl) ?_
                          refine bk_g_pen C hw.1 d_Bk_put_167 ?_
                          refine lv_iload_n hx hb d_Bk_put_170 rfl (lv_at hl 1 rfl) ?_
                          refine lv_aload_n hx hb d_Bk_put_171 rfl (lv_at hl 2 rfl) ?_
                          refine bk_g_page C hw.1 d_Bk_put_172 ?_
                          refine pb_vV (As := [.int (nI fb), .ref (a 4)]) (rest := []) C hA hw k_Pn_writeAll m_140 (c_Pn_writeAll l D a ra k n 0 op (nI t) mn 0 fd (pb_seal PG) en bl pl wa M fb _ hn64 (by omega) (by omega)) rfl hl.1 1 1 rfl rfl rfl ⟨by decide, by decide⟩ ⟨Nat.zero_le _, Nat.zero_le _⟩ rfl (Nat.le_of_ble_eq_true rfl) d_Bk_put_175 (fun u175 H locs h175 hw => ?_)
                          refine lv_aload_n hx hb d_Bk_put_178 rfl (lv_at hl 2 rfl) ?_
                          refine bk_g_entries C hw.1 d_Bk_put_179 ?_
                          refine lv_aload_n hx hb d_Bk_put_182 rfl (lv_at hl 2 rfl) ?_
                          refine bk_g_many C hw.1 d_Bk_put_183 ?_
                          refine lv_iload_n hx hb d_Bk_put_186 rfl (lv_at hl 1 rfl) ?_
                          refine bk_s_entries C hw (by omega) d_Bk_put_187 (fun H locs hw => ?_)
                          refine lv_aload_n hx hb d_Bk_put_188 rfl (lv_at hl 2 rfl) ?_
                          refine lv_dup hx hb d_Bk_put_189 rfl ?_
                          refine bk_g_many C hw.1 d_Bk_put_190 ?_
                          refine lv_iconst (v := nI 1) hx hb d_Bk_put_193 (by decide +kernel) ?_
                          refine pb_add hx hb d_Bk_put_194 ?_
                          refine bk_p_many C hw d_Bk_put_195 (fun H locs hw => ?_)
                          refine lv_aload_n hx hb d_Bk_put_198 rfl (lv_at hl 2 rfl) ?_
                          refine lv_iconst (v := -1) hx hb d_Bk_put_199 (by decide +kernel) ?_
                          refine pb_vV (As := [.int (-1)]) (rest := []) C hA hw k_Bk_fillRoot m_53 (c_Bk_fillRoot l D a ra k n 0 op (nI t) (mn + 1) (0 + 64) fd (pb_seal PG) (va_up en mn fb) (pb_fill bl 0 64 (fun _ => fb)) (pb_fill pl 0 64 (fun j => j)) (pb_fill wa 0 64 (fun j => M fb j)) (pb_rowf M fb 64 (pb_seal PG)) (-1) 64 _ (by omega) hen2 (pb_seal_lt hPG3) (fun z hz => ⟨fun g => absurd g (pb_ne_m1 (by omega)), fun g => by omega⟩)) rfl hl.1 0 0 rfl rfl rfl ⟨by decide, by decide⟩ ⟨Nat.zero_le _, Nat.zero_le _⟩ rfl (Nat.le_of_ble_eq_true rfl) d_Bk_put_200 (fun u200 H locs h200 hw => ?_)
                          obtain ⟨h200a, h200b⟩ := h200
                          refine lv_aload_n hx hb d_Bk_put_203 rfl (lv_at hl 2 rfl) ?_
                          refine pb_vV (As := []) (rest := []) C hA hw k_Bk_turnTo m_148 (c_Bk_turnTo l D a ra k n 0 op (mn + 1) (0 + 64) fd u200 (va_up en mn fb) (pb_fill bl 0 64 (fun _ => fb)) (pb_fill pl 0 64 (fun j => j)) (pb_fill wa 0 64 (fun j => M fb j)) (pb_rowf M fb 64 (pb_seal PG)) t _ hn64 hn4 ht (by omega)) rfl hl.1 0 0 rfl rfl rfl ⟨by decide, by decide⟩ ⟨Nat.zero_le _, Nat.zero_le _⟩ rfl (Nat.le_of_ble_eq_true rfl) d_Bk_put_204 (fun u204 H locs h204 hw => ?_)
                          refine lv_aload_n hx hb d_Bk_put_207 rfl (lv_at hl 2 rfl) ?_
                          refine bk_g_many C hw.1 d_Bk_put_208 ?_
                          refine lv_iconst (v := nI 1) hx hb d_Bk_put_211 (by decide +kernel) ?_
                          refine pb_sub (by omega) hx hb d_Bk_put_212 ?_
                          have e1 : pb_rowf M fb 64 (pb_seal PG) = pb_rowf M fb 64 (pb_pe v fs fd) := pb_rowf_congr (pb_seal_congr hPG2)
                          have e2 : ∀ MM : Nat → Nat → Nat, pb_turnM MM t u200 = pb_turnM MM t (pb_pr mn en fb) := fun MM => by unfold pb_turnM; rw [pb_rowf_congr h200a]; rfl
                          have e3 : ∀ MM : Nat → Nat → Nat, ∀ ww : Nat → Nat, pb_turnw ww MM (0 + 64) t u200 = pb_turnw ww MM 64 t (pb_pr mn en fb) := fun MM ww => by unfold pb_turnw; rw [pb_rowf_congr h200a]; rfl
                          rw [e1, e2, e3] at hw
                          exact kr _ _ _ _ _ ((2, v, fb), u200) d_Bk_put_213 rfl hw ⟨Or.inr ⟨hop1, c_4, v, by omega, rfl, Or.inr (Or.inr ⟨fun z hz => hs z (by omega), by omega, fb, h66, rfl, rfl⟩)⟩, h200b⟩
                        · refine lv_aload_n hx hb d_Bk_put_129 rfl (lv_at hl 2 rfl) ?_
                          refine bk_g_page C hw.1 d_Bk_put_130 ?_
                          refine lv_iconst (v := nI 3) hx hb d_Bk_put_133 (by decide +kernel) ?_
                          refine lv_iload_n hx hb d_Bk_put_134 rfl (lv_at hl 0 rfl) ?_
                          refine pb_add hx hb d_Bk_put_135 ?_
                          refine lv_aload_n hx hb d_Bk_put_136 rfl (lv_at hl 2 rfl) ?_
                          refine bk_g_fed C hw.1 d_Bk_put_137 ?_
                          refine lv_iload_n hx hb d_Bk_put_140 rfl (lv_at hl 0 rfl) ?_
                          refine bk_l_fed C hw.1 (by omega) d_Bk_put_141 ?_
                          refine bk_s_page C hw (by omega) (pb_i2b _) d_Bk_put_142 (fun H locs hw => ?_)
                          refine lv_iinc (v := nI (i + 1)) (lv' := [(3, .int (nI (i + 1))), (2, .int (nI fb)), (0, .ref (a 0)), (1, .int (nI v))]) hx hb d_Bk_put_143 hl (k := 0) rfl (pb_i1 _) (by decide) rfl (fun ls hl => ?_)
                          refine lv_goto (tgt := 121) hx hb d_Bk_put_146 (by decide) ?_
                          exact ih2 (i + 1) _ _ _ (by omega) (by omega) (by rw [← pb_fill_s (va_up (va_up (va_up (pb_fill pg 0 64 (fun _ => 0)) 0 (v % 256)) 1 (v / 256)) 2 fs) 3 i]; exact hw) (lv_sub hl [0, 1, 2, 3] rfl)
                    exact loop121 (fs + 1) 0 _ _ _ (by omega) (by omega) (by rw [pb_fill_0]; exact hw) (lv_sub hl [0, 1, 2, 3] rfl)
                · refine lv_istore_n (lv' := [(2, .int (-1)), (0, .ref (a 0)), (1, .int (nI v))]) hx hb d_Bk_put_69 rfl hl (by decide) rfl (fun ls hl => ?_)
                  refine lv_aload_n hx hb d_Bk_put_70 rfl (lv_at hl 1 rfl) ?_
                  refine bk_g_many C hw.1 d_Bk_put_71 ?_
                  refine lv_bipush (v := nI 40) hx hb d_Bk_put_74 (by decide +kernel) ?_
                  refine pb_eq (tgt := 83) (by omega) (by omega) hx hb d_Bk_put_76 (by decide) (fun c_6 => ?_) (fun c_6 => ?_)
                  · refine lv_iconst (v := -1) hx hb d_Bk_put_83 (by decide +kernel) ?_
                    exact kr _ _ _ _ _ ((0, 0, 0), pg) d_Bk_put_84 rfl hw ⟨Or.inr ⟨hop1, c_4, v, by omega, rfl, Or.inr (Or.inl ⟨fun z hz => hs z (by omega), Or.inl c_6, rfl, rfl⟩)⟩, hpg⟩
                  · refine lv_iload_n hx hb d_Bk_put_79 rfl (lv_at hl 0 rfl) ?_
                    refine lv_if_ge (tgt := 85) hx hb d_Bk_put_80 (by decide) (fun c_7 => absurd c_7 (by decide)) (fun _ => ?_)
                    refine lv_iconst (v := -1) hx hb d_Bk_put_83 (by decide +kernel) ?_
                    exact kr _ _ _ _ _ ((0, 0, 0), pg) d_Bk_put_84 rfl hw ⟨Or.inr ⟨hop1, c_4, v, by omega, rfl, Or.inr (Or.inl ⟨fun z hz => hs z (by omega), Or.inr h66, rfl, rfl⟩)⟩, hpg⟩
              · refine lv_aload_n hx hb d_Bk_put_36 rfl (lv_at hl 1 rfl) ?_
                refine lv_aload_n hx hb d_Bk_put_37 rfl (lv_at hl 1 rfl) ?_
                refine bk_g_entries C hw.1 d_Bk_put_38 ?_
                refine lv_iload_n hx hb d_Bk_put_41 rfl (lv_at hl 0 rfl) ?_
                refine bk_l_entries C hw.1 (by omega) d_Bk_put_42 ?_
                refine pb_vR (As := [.int (nI (en q))]) (rest := []) C hw.1 k_Bk_isFed m_132 (c_Bk_isFed l D a ra k n fs op (nI t) mn sz fd pg en bl pl wa M (en q) hn64 hM (hen0 q (by omega)).2 hfs hfd) rfl hl.1 0 0 rfl rfl rfl ⟨by decide, by decide⟩ ⟨Nat.zero_le _, Nat.zero_le _⟩ rfl (Nat.le_of_ble_eq_true rfl) d_Bk_put_43 (fun r43 h43 => ?_)
                rcases h43 with ⟨rfl, h43⟩ | ⟨rfl, h43⟩
                · refine pb_nz (tgt := 52) (by decide) hx hb d_Bk_put_46 (by decide) (fun _ => ?_) (fun c_6 => absurd c_6 (by decide))
                  refine lv_aload_n hx hb d_Bk_put_52 rfl (lv_at hl 1 rfl) ?_
                  refine lv_iconst (v := nI 0) hx hb d_Bk_put_53 (by decide +kernel) ?_
                  refine bk_p_fedSize C hw d_Bk_put_54 (fun H locs hw => ?_)
                  refine lv_iload_n hx hb d_Bk_put_57 rfl (lv_at hl 0 rfl) ?_
                  exact kr _ _ _ _ _ ((1, 0, 0), pg) d_Bk_put_58 rfl hw ⟨Or.inr ⟨hop1, c_4, v, by omega, rfl, Or.inl ⟨q, by omega, h43, hs, rfl, rfl⟩⟩, hpg⟩
                · refine pb_nz (tgt := 52) (by decide) hx hb d_Bk_put_46 (by decide) (fun c_6 => absurd c_6 (by decide)) (fun _ => ?_)
                  refine lv_goto (tgt := 59) hx hb d_Bk_put_49 (by decide) ?_
                  refine lv_iinc (v := nI (q + 1)) (lv' := [(2, .int (nI (q + 1))), (0, .ref (a 0)), (1, .int (nI v))]) hx hb d_Bk_put_59 hl (k := 0) rfl (pb_i1 _) (by decide) rfl (fun ls hl => ?_)
                  refine lv_goto (tgt := 28) hx hb d_Bk_put_62 (by decide) ?_
                  exact ih (q + 1) _ _ _ (by omega) (by omega) (fun j hj => by rcases Nat.lt_succ_iff_lt_or_eq.mp hj with z | z; exact hs j z; subst z; exact h43) hw (lv_sub hl [0, 1, 2] rfl)
          exact loop28 (mn + 1) 0 _ _ _ (by omega) (by omega) (fun j hj => absurd hj (Nat.not_lt_zero j)) hw (lv_sub hl [0, 1, 2] rfl)
        · refine lv_iconst (v := -1) hx hb d_Bk_put_24 (by decide +kernel) ?_
          exact kr _ _ _ _ _ ((0, 0, 0), pg) d_Bk_put_25 rfl hw ⟨Or.inl ⟨Or.inr (Or.inr (Or.inr c_4)), rfl, rfl⟩, hpg⟩
end
section
-- ===== reads, reopen of the book (by gen/m4.py) =====
set_option maxHeartbeats 4000000 in
set_option maxRecDepth 100000 in
theorem c_Bk_reads (l : Launch) (D : va_G) (a : Nat → Nat) (ra : Nat → Nat) (k : Nat → ClassId) (n : Nat) (fs : Nat) (op : Nat) (tn : Int32) (sz : Nat) (fd : Nat → Nat) (pg : Nat → Nat) (en : Nat → Nat) (bl : Nat → Nat) (pl : Nat → Nat) (wa : Nat → Nat) (M : Nat → Nat → Nat) (b : Nat) (sz0 : Nat) (hn64 : n ≤ 64) (hn4 : 4 ≤ n) (hM : ∀ x j, M x j < 256) (hbn : b < n) : Met l y_Bk_reads (pb_ws y_Bk_reads b_Bk_reads 5 (some .boolean)) (pb_rm 1 0 0) (pb_P D k [.ref (a 0), .ref (ra b)] (bk_W a ra k n fs op tn 0 sz fd pg en bl pl wa M) sz0) (pb_QI D (bk_W a ra k n fs op tn 0 sz fd pg en bl pl wa M) sz0 (fun (r : Int32) (u : Nat × (Nat → Nat)) => (r = nI 1 ∧ pb_rok n (M b) ∧ u.1 = M b 0 ∧ (∀ e, e < M b 0 → u.2 e = M b (1 + e))) ∨ (r = nI 0 ∧ ¬ pb_rok n (M b))) (fun (u : Nat × (Nat → Nat)) => bk_W a ra k n fs op tn u.1 sz fd pg u.2 bl pl wa M)) 0 0 (va_A (bk_W a ra k n fs op tn 0 sz fd pg en bl pl wa M) sz0) := by
  refine pb_mkI R_Bk rfl (by decide) (Nat.le_of_ble_eq_true rfl) ?_
  intro p e R s m args below meth c Q A ls C hRc hA hw hl kr
  obtain ⟨H, hH⟩ : ∃ H : Heap, H = s.heap := ⟨_, rfl⟩
  obtain ⟨locs, hL⟩ : ∃ L : List Loc, L = [] := ⟨_, rfl⟩
  have hw : pb_W D A s.heap (bk_W a ra k n fs op tn 0 sz fd pg en bl pl wa M) H locs := by rw [hH, hL]; exact hw
  rw [show W p l e R s m args below meth c s.heap [] 0 0 Q (F0 m 0 ls []) = W p l e R s m args below meth c H locs 0 0 Q (F0 m 0 ls []) by rw [hH, hL]]
  clear hH hL
  obtain ⟨hx, hb, hml, hown, hG, hkn, hR1, hR2⟩ := id C
  have hl : lv_has ls 5 [(0, .ref (a 0)), (1, .ref (ra b))] := hl
  refine lv_aload_n hx hb d_Bk_reads_0 rfl (lv_at hl 1 rfl) ?_
  refine lv_iconst (v := nI 0) hx hb d_Bk_reads_1 (by decide +kernel) ?_
  refine bk_rld C hw.1 (by omega) (by omega) d_Bk_reads_2 ?_
  refine lv_sipush (v := nI 255) hx hb d_Bk_reads_3 (by decide +kernel) ?_
  refine pb_and (hM _ _) hx hb d_Bk_reads_6 ?_
  refine lv_istore_n (lv' := [(2, .int (nI (M b 0))), (0, .ref (a 0)), (1, .ref (ra b))]) hx hb d_Bk_reads_7 rfl hl (by decide) rfl (fun ls hl => ?_)
  refine lv_iload_n hx hb d_Bk_reads_8 rfl (lv_at hl 0 rfl) ?_
  refine lv_bipush (v := nI 40) hx hb d_Bk_reads_9 (by decide +kernel) ?_
  refine pb_le (tgt := 16) (by have := hM b 0; omega) (by omega) hx hb d_Bk_reads_11 (by decide) (fun c_1 => ?_) (fun c_1 => ?_)
  · refine lv_iconst (v := nI 0) hx hb d_Bk_reads_16 (by decide +kernel) ?_
    refine lv_istore_n (lv' := [(3, .int (nI 0)), (2, .int (nI (M b 0))), (0, .ref (a 0)), (1, .ref (ra b))]) hx hb d_Bk_reads_17 rfl hl (by decide) rfl (fun ls hl => ?_)
    have loop18 : ∀ (fu : Nat) (q : Nat) (E : Nat → Nat) (H : Heap) (locs : List Loc) (ls : Array Slot), (q ≤ M b 0) → (M b 0 + 1 ≤ q + fu) → (∀ e, e < q → E e = M b (1 + e)) → (∀ e, e < q → 3 ≤ M b (1 + e) ∧ M b (1 + e) < n ∧ ∀ e', e' < e → M b (1 + e') ≠ M b (1 + e)) → pb_W D A s.heap (bk_W a ra k n fs op tn q sz fd pg E bl pl wa M) H locs → lv_has ls 5 [(3, .int (nI q)), (2, .int (nI (M b 0))), (0, .ref (a 0)), (1, .ref (ra b))] → W p l e R s m args below meth c H locs 0 0 Q (F0 m 18 ls []) := by
      intro fu
      induction fu with
      | zero =>
        intro q E H locs ls h1 hn hE hR
        exfalso
        omega
      | succ fu ih =>
        intro q E H locs ls h1 hn hE hR hw hl
        refine lv_iload_n hx hb d_Bk_reads_18 rfl (lv_at hl 0 rfl) ?_
        refine lv_iload_n hx hb d_Bk_reads_19 rfl (lv_at hl 1 rfl) ?_
        refine pb_ge (tgt := 88) (by have := hM b 0; omega) (by have := hM b 0; omega) hx hb d_Bk_reads_20 (by decide) (fun c_2 => ?_) (fun c_2 => ?_)
        · refine lv_iconst (v := nI 1) hx hb d_Bk_reads_88 (by decide +kernel) ?_
          exact kr _ _ _ _ _ (q, E) d_Bk_reads_89 rfl hw (Or.inl ⟨rfl, ⟨by omega, fun z hz => hR z (by omega)⟩, by omega, fun z hz => hE z (by omega)⟩)
        · refine lv_aload_n hx hb d_Bk_reads_23 rfl (lv_at hl 3 rfl) ?_
          refine lv_iconst (v := nI 1) hx hb d_Bk_reads_24 (by decide +kernel) ?_
          refine lv_iload_n hx hb d_Bk_reads_25 rfl (lv_at hl 0 rfl) ?_
          refine pb_add hx hb d_Bk_reads_26 ?_
          refine bk_rld C hw.1 (by omega) (by omega) d_Bk_reads_27 ?_
          refine lv_sipush (v := nI 255) hx hb d_Bk_reads_28 (by decide +kernel) ?_
          refine pb_and (hM _ _) hx hb d_Bk_reads_31 ?_
          refine lv_istore (lv' := [(4, .int (nI (M b (1 + q)))), (3, .int (nI q)), (2, .int (nI (M b 0))), (0, .ref (a 0)), (1, .ref (ra b))]) hx hb d_Bk_reads_32 hl (by decide) rfl (fun ls hl => ?_)
          refine lv_iload hx hb d_Bk_reads_34 (lv_at hl 0 rfl) ?_
          refine lv_iconst (v := nI 3) hx hb d_Bk_reads_36 (by decide +kernel) ?_
          refine pb_lt (tgt := 59) (by have := hM b (1 + q); omega) (by omega) hx hb d_Bk_reads_37 (by decide) (fun c_3 => ?_) (fun c_3 => ?_)
          · refine lv_iconst (v := nI 0) hx hb d_Bk_reads_59 (by decide +kernel) ?_
            exact kr _ _ _ _ _ (q, E) d_Bk_reads_60 rfl hw (Or.inr ⟨rfl, fun z => absurd (z.2 q (by omega)).1 (by omega)⟩)
          · refine lv_iload hx hb d_Bk_reads_40 (lv_at hl 0 rfl) ?_
            refine lv_aload_n hx hb d_Bk_reads_42 rfl (lv_at hl 3 rfl) ?_
            refine bk_g_store C hw.1 d_Bk_reads_43 ?_
            refine bk_len C hw.1 d_Bk_reads_46 ?_
            refine pb_ge (tgt := 59) (by have := hM b (1 + q); omega) (by omega) hx hb d_Bk_reads_47 (by decide) (fun c_4 => ?_) (fun c_4 => ?_)
            · refine lv_iconst (v := nI 0) hx hb d_Bk_reads_59 (by decide +kernel) ?_
              exact kr _ _ _ _ _ (q, E) d_Bk_reads_60 rfl hw (Or.inr ⟨rfl, fun z => absurd (z.2 q (by omega)).2.1 (by omega)⟩)
            · refine lv_aload_n hx hb d_Bk_reads_50 rfl (lv_at hl 3 rfl) ?_
              refine lv_iload hx hb d_Bk_reads_51 (lv_at hl 0 rfl) ?_
              refine pb_vR (As := [.int (nI (M b (1 + q)))]) (rest := []) C hw.1 k_Bk_isUsed m_87 (c_Bk_isUsed l D a ra k n fs op tn q sz fd pg E bl pl wa M (M b (1 + q)) (show q ≤ 40 by omega) (fun z hz => by have := (hR z hz).2.1; rw [hE z hz]; omega) (hM _ _)) rfl hl.1 0 0 rfl rfl rfl ⟨by decide, by decide⟩ ⟨Nat.zero_le _, Nat.zero_le _⟩ rfl (Nat.le_of_ble_eq_true rfl) d_Bk_reads_53 (fun r53 h53 => ?_)
              rcases h53 with ⟨rfl, h53⟩ | ⟨rfl, h53⟩
              · refine pb_z (tgt := 61) (by decide) hx hb d_Bk_reads_56 (by decide) (fun c_5 => absurd c_5 (by decide)) (fun _ => ?_)
                refine lv_iconst (v := nI 0) hx hb d_Bk_reads_59 (by decide +kernel) ?_
                exact kr _ _ _ _ _ (q, E) d_Bk_reads_60 rfl hw (Or.inr ⟨rfl, fun z => by obtain ⟨e2, g1, g2⟩ := h53; exact (z.2 q (by omega)).2.2 e2 g1 (by rw [← hE e2 g1]; exact g2)⟩)
              · refine pb_z (tgt := 61) (by decide) hx hb d_Bk_reads_56 (by decide) (fun _ => ?_) (fun c_5 => absurd c_5 (by decide))
                refine lv_aload_n hx hb d_Bk_reads_61 rfl (lv_at hl 3 rfl) ?_
                refine bk_g_entries C hw.1 d_Bk_reads_62 ?_
                refine lv_aload_n hx hb d_Bk_reads_65 rfl (lv_at hl 3 rfl) ?_
                refine bk_g_many C hw.1 d_Bk_reads_66 ?_
                refine lv_iload hx hb d_Bk_reads_69 (lv_at hl 0 rfl) ?_
                refine bk_s_entries C hw (by omega) d_Bk_reads_71 (fun H locs hw => ?_)
                refine lv_aload_n hx hb d_Bk_reads_72 rfl (lv_at hl 3 rfl) ?_
                refine lv_dup hx hb d_Bk_reads_73 rfl ?_
                refine bk_g_many C hw.1 d_Bk_reads_74 ?_
                refine lv_iconst (v := nI 1) hx hb d_Bk_reads_77 (by decide +kernel) ?_
                refine pb_add hx hb d_Bk_reads_78 ?_
                refine bk_p_many C hw d_Bk_reads_79 (fun H locs hw => ?_)
                refine lv_iinc (v := nI (q + 1)) (lv' := [(3, .int (nI (q + 1))), (4, .int (nI (M b (1 + q)))), (2, .int (nI (M b 0))), (0, .ref (a 0)), (1, .ref (ra b))]) hx hb d_Bk_reads_82 hl (k := 1) rfl (pb_i1 _) (by decide) rfl (fun ls hl => ?_)
                refine lv_goto (tgt := 18) hx hb d_Bk_reads_85 (by decide) ?_
                exact ih (q + 1) (va_up E q (M b (1 + q))) _ _ _ (by omega) (by omega) (fun z hz => by
                      unfold va_up
                      split
                      · subst_vars; rfl
                      · exact hE z (by omega)) (fun z hz => by
                      rcases Nat.lt_succ_iff_lt_or_eq.mp hz with g | g
                      · exact hR z g
                      · subst g
                        exact ⟨c_3, c_4, fun e2 g1 g2 => h53 ⟨e2, g1, by rw [hE e2 g1]; exact g2⟩⟩) hw (lv_sub hl [0, 2, 3, 4] rfl)
    exact loop18 (M b 0 + 1) 0 en _ _ _ (by omega) (by omega) (fun z hz => absurd hz (Nat.not_lt_zero z)) (fun z hz => absurd hz (Nat.not_lt_zero z)) hw (lv_sub hl [0, 1, 2, 3] rfl)
  · refine lv_iconst (v := nI 0) hx hb d_Bk_reads_14 (by decide +kernel) ?_
    exact kr _ _ _ _ _ (0, en) d_Bk_reads_15 rfl hw (Or.inr ⟨rfl, fun z => absurd z.1 (by omega)⟩)
/-- the least bad block so far: 64 if there is none -/
def pb_lb (M : Nat → Nat → Nat) (t q w : Nat) : Prop := (w = 64 ∧ ∀ e, e < q → pb_eok (M (M t (1 + e)))) ∨ pb_leastbad M t q w
theorem pb_lb_ok {M : Nat → Nat → Nat} {t q w : Nat} (h : pb_lb M t q w) (hok : pb_eok (M (M t (1 + q)))) : pb_lb M t (q + 1) w := by
  rcases h with ⟨h1, h2⟩ | ⟨⟨e, g1, g2, g3⟩, h2⟩
  · refine Or.inl ⟨h1, fun e he => ?_⟩
    rcases Nat.lt_succ_iff_lt_or_eq.mp he with z | z
    · exact h2 e z
    · subst z; exact hok
  · refine Or.inr ⟨⟨e, by omega, g2, g3⟩, fun e he hb => ?_⟩
    rcases Nat.lt_succ_iff_lt_or_eq.mp he with z | z
    · exact h2 e z hb
    · subst z; exact absurd hok hb
theorem pb_lb_no {M : Nat → Nat → Nat} {t q w : Nat} (h : pb_lb M t q w) (hno : ¬ pb_eok (M (M t (1 + q)))) (hb : M t (1 + q) < 64) (hw : w ≤ 64) : pb_lb M t (q + 1) (if M t (1 + q) < w then M t (1 + q) else w) := by
  rcases h with ⟨h1, h2⟩ | ⟨⟨e, g1, g2, g3⟩, h2⟩
  · subst h1
    rw [if_pos hb]
    refine Or.inr ⟨⟨q, by omega, rfl, hno⟩, fun e he hb2 => ?_⟩
    rcases Nat.lt_succ_iff_lt_or_eq.mp he with z | z
    · exact absurd (h2 e z) hb2
    · subst z; exact Nat.le_refl _
  · by_cases hlt : M t (1 + q) < w
    · rw [if_pos hlt]
      refine Or.inr ⟨⟨q, by omega, rfl, hno⟩, fun e he hb2 => ?_⟩
      rcases Nat.lt_succ_iff_lt_or_eq.mp he with z | z
      · exact Nat.le_trans (Nat.le_of_lt hlt) (h2 e z hb2)
      · subst z; exact Nat.le_refl _
    · rw [if_neg hlt]
      refine Or.inr ⟨⟨e, by omega, g2, g3⟩, fun e he hb2 => ?_⟩
      rcases Nat.lt_succ_iff_lt_or_eq.mp he with z | z
      · exact h2 e z hb2
      · subst z; omega
theorem pb_minN {a b : Nat} (ha : a < 2 ^ 31) (hb : b < 2 ^ 31) : (if nI b < nI a then nI b else nI a) = nI (if b < a then b else a) := by
  by_cases h : b < a
  · rw [if_pos h, if_pos ((nI_ltI hb ha).mpr h)]
  · rw [if_neg h, if_neg (fun q => h ((nI_ltI hb ha).mp q))]
set_option maxHeartbeats 4000000 in
set_option maxRecDepth 100000 in
theorem c_Bk_reopen (l : Launch) (D : va_G) (a : Nat → Nat) (ra : Nat → Nat) (k : Nat → ClassId) (n : Nat) (fs : Nat) (op : Nat) (tn : Int32) (mn : Nat) (sz : Nat) (fd : Nat → Nat) (pg : Nat → Nat) (en : Nat → Nat) (bl : Nat → Nat) (pl : Nat → Nat) (wa : Nat → Nat) (M : Nat → Nat → Nat)  (sz0 : Nat) (hn64 : n ≤ 64) (hn4 : 4 ≤ n) (hM : ∀ x j, M x j < 256) : Met l y_Bk_reopen (pb_ws y_Bk_reopen b_Bk_reopen 3 (some .int)) (pb_rm 3 0 0) (pb_P D k [.ref (a 0)] (bk_W a ra k n fs op tn mn sz fd pg en bl pl wa M) sz0) (pb_QI D (bk_W a ra k n fs op tn mn sz fd pg en bl pl wa M) sz0 (fun (r : Int32) (u : Nat × Int32 × Nat × (Nat → Nat)) => pb_reops n M r u.1 ∧ (u.1 = 1 → u.2.1 = nI (M 0 0) ∧ u.2.2.1 = M (M 0 0) 0 ∧ ∀ e, e < M (M 0 0) 0 → u.2.2.2 e = M (M 0 0) (1 + e))) (fun (u : Nat × Int32 × Nat × (Nat → Nat)) => bk_W a ra k n fs u.1 u.2.1 u.2.2.1 0 fd pg u.2.2.2 bl pl wa M)) 0 0 (va_A (bk_W a ra k n fs op tn mn sz fd pg en bl pl wa M) sz0) := by
  refine pb_mkI R_Bk rfl (by decide) (Nat.le_of_ble_eq_true rfl) ?_
  intro p e R s m args below meth c Q A ls C hRc hA hw hl kr
  obtain ⟨H, hH⟩ : ∃ H : Heap, H = s.heap := ⟨_, rfl⟩
  obtain ⟨locs, hL⟩ : ∃ L : List Loc, L = [] := ⟨_, rfl⟩
  have hw : pb_W D A s.heap (bk_W a ra k n fs op tn mn sz fd pg en bl pl wa M) H locs := by rw [hH, hL]; exact hw
  rw [show W p l e R s m args below meth c s.heap [] 0 0 Q (F0 m 0 ls []) = W p l e R s m args below meth c H locs 0 0 Q (F0 m 0 ls []) by rw [hH, hL]]
  clear hH hL
  obtain ⟨hx, hb, hml, hown, hG, hkn, hR1, hR2⟩ := id C
  have hl : lv_has ls 3 [(0, .ref (a 0))] := hl
  refine lv_aload_n hx hb d_Bk_reopen_0 rfl (lv_at hl 0 rfl) ?_
  refine lv_iconst (v := nI 0) hx hb d_Bk_reopen_1 (by decide +kernel) ?_
  refine bk_p_isOpen C hw (by omega) d_Bk_reopen_2 (fun H locs hw => ?_)
  refine lv_aload_n hx hb d_Bk_reopen_5 rfl (lv_at hl 0 rfl) ?_
  refine lv_iconst (v := nI 0) hx hb d_Bk_reopen_6 (by decide +kernel) ?_
  refine bk_p_many C hw d_Bk_reopen_7 (fun H locs hw => ?_)
  refine lv_aload_n hx hb d_Bk_reopen_10 rfl (lv_at hl 0 rfl) ?_
  refine bk_g_pen C hw.1 d_Bk_reopen_11 ?_
  refine lv_iconst (v := nI 0) hx hb d_Bk_reopen_14 (by decide +kernel) ?_
  refine bk_p_size C hw d_Bk_reopen_15 (fun H locs hw => ?_)
  refine lv_aload_n hx hb d_Bk_reopen_18 rfl (lv_at hl 0 rfl) ?_
  refine lv_aload_n hx hb d_Bk_reopen_19 rfl (lv_at hl 0 rfl) ?_
  refine bk_g_store C hw.1 d_Bk_reopen_20 ?_
  refine lv_iconst (v := nI 0) hx hb d_Bk_reopen_23 (by decide +kernel) ?_
  refine bk_row C hw.1 (by omega) hn64 d_Bk_reopen_24 ?_
  refine lv_iconst (v := nI 0) hx hb d_Bk_reopen_25 (by decide +kernel) ?_
  refine bk_rld C hw.1 (by omega) (by omega) d_Bk_reopen_26 ?_
  refine bk_p_turn C hw d_Bk_reopen_27 (fun H locs hw => ?_)
  refine lv_aload_n hx hb d_Bk_reopen_30 rfl (lv_at hl 0 rfl) ?_
  refine bk_g_turn C hw.1 d_Bk_reopen_31 ?_
  refine lv_iconst (v := nI 1) hx hb d_Bk_reopen_34 (by decide +kernel) ?_
  refine lv_icmp_eq (tgt := 48) hx hb d_Bk_reopen_35 (by decide) (fun c_1 => ?_) (fun c_1 => ?_)
  · have hT : M 0 0 = 1 := pb_sb_inj _ (hM 0 0) 1 (by decide) (c_1.trans (by decide +kernel))
    have hTn : M 0 0 < n := by omega
    have hT2 : M 0 0 = 1 ∨ M 0 0 = 2 := by omega
    have hTs : sb_b (M 0 0) = nI (M 0 0) := by rw [hT]; decide +kernel
    rw [hTs] at hw
    refine lv_aload_n hx hb d_Bk_reopen_48 rfl (lv_at hl 0 rfl) ?_
    refine lv_aload_n hx hb d_Bk_reopen_49 rfl (lv_at hl 0 rfl) ?_
    refine bk_g_turn C hw.1 d_Bk_reopen_50 ?_
    refine pb_vR (As := [.int (nI (M 0 0))]) (rest := []) C hw.1 k_Bk_isRight m_76 (c_Bk_isRight l D a ra k n fs 0 (nI (M 0 0)) 0 0 fd pg en bl pl wa M (M 0 0) hn64 hM (by omega)) rfl hl.1 0 0 rfl rfl rfl ⟨by decide, by decide⟩ ⟨Nat.zero_le _, Nat.zero_le _⟩ rfl (Nat.le_of_ble_eq_true rfl) d_Bk_reopen_53 (fun r53 h53 => ?_)
    rcases h53 with ⟨rfl, h53⟩ | ⟨rfl, h53⟩
    · refine pb_z (tgt := 75) (by decide) hx hb d_Bk_reopen_56 (by decide) (fun c_2 => absurd c_2 (by decide)) (fun _ => ?_)
      refine lv_aload_n hx hb d_Bk_reopen_59 rfl (lv_at hl 0 rfl) ?_
      refine lv_aload_n hx hb d_Bk_reopen_60 rfl (lv_at hl 0 rfl) ?_
      refine bk_g_store C hw.1 d_Bk_reopen_61 ?_
      refine lv_aload_n hx hb d_Bk_reopen_64 rfl (lv_at hl 0 rfl) ?_
      refine bk_g_turn C hw.1 d_Bk_reopen_65 ?_
      refine bk_row C hw.1 (by omega) hn64 d_Bk_reopen_68 ?_
      refine pb_vI (As := [.ref (ra (M 0 0))]) (rest := []) C hA hw k_Bk_reads m_83 (c_Bk_reads l D a ra k n fs 0 (nI (M 0 0)) 0 fd pg en bl pl wa M (M 0 0) _ hn64 hn4 hM (by omega)) rfl hl.1 0 0 rfl rfl rfl ⟨by decide, by decide⟩ ⟨Nat.zero_le _, Nat.zero_le _⟩ rfl (Nat.le_of_ble_eq_true rfl) d_Bk_reopen_69 (fun r69 u69 H locs h69 hw => ?_)
      rcases h69 with ⟨rfl, h69, h69b, h69c⟩ | ⟨rfl, h69⟩
      · refine pb_nz (tgt := 82) (by decide) hx hb d_Bk_reopen_72 (by decide) (fun _ => ?_) (fun c_3 => absurd c_3 (by decide))
        refine lv_bipush (v := nI 64) hx hb d_Bk_reopen_82 (by decide +kernel) ?_
        refine lv_istore_n (lv' := [(1, .int (nI 64)), (0, .ref (a 0))]) hx hb d_Bk_reopen_84 rfl hl (by decide) rfl (fun ls hl => ?_)
        refine lv_iconst (v := nI 0) hx hb d_Bk_reopen_85 (by decide +kernel) ?_
        refine lv_istore_n (lv' := [(2, .int (nI 0)), (1, .int (nI 64)), (0, .ref (a 0))]) hx hb d_Bk_reopen_86 rfl hl (by decide) rfl (fun ls hl => ?_)
        have loop87 : ∀ (fu : Nat) (q w : Nat) (H : Heap) (locs : List Loc) (ls : Array Slot), (q ≤ M (M 0 0) 0) → (M (M 0 0) 0 + 1 ≤ q + fu) → (w ≤ 64) → (pb_lb M (M 0 0) q w) → pb_W D A s.heap (bk_W a ra k n fs 0 (nI (M 0 0)) u69.1 0 fd pg u69.2 bl pl wa M) H locs → lv_has ls 3 [(2, .int (nI q)), (1, .int (nI w)), (0, .ref (a 0))] → W p l e R s m args below meth c H locs 0 0 Q (F0 m 87 ls []) := by
          intro fu
          induction fu with
          | zero =>
            intro q w H locs ls h1 hn hw64 hw0
            exfalso
            omega
          | succ fu ih =>
            intro q w H locs ls h1 hn hw64 hw0 hw hl
            refine lv_iload_n hx hb d_Bk_reopen_87 rfl (lv_at hl 0 rfl) ?_
            refine lv_aload_n hx hb d_Bk_reopen_88 rfl (lv_at hl 2 rfl) ?_
            refine bk_g_many C hw.1 d_Bk_reopen_89 ?_
            refine pb_ge (tgt := 154) (by have := h69.1; omega) (by have := h69.1; omega) hx hb d_Bk_reopen_92 (by decide) (fun c_4 => ?_) (fun c_4 => ?_)
            · refine lv_iload_n hx hb d_Bk_reopen_154 rfl (lv_at hl 1 rfl) ?_
              refine lv_bipush (v := nI 64) hx hb d_Bk_reopen_155 (by decide +kernel) ?_
              refine pb_ge (tgt := 164) (by omega) (by omega) hx hb d_Bk_reopen_157 (by decide) (fun c_5 => ?_) (fun c_5 => ?_)
              · refine lv_aload_n hx hb d_Bk_reopen_164 rfl (lv_at hl 2 rfl) ?_
                refine lv_iconst (v := nI 1) hx hb d_Bk_reopen_165 (by decide +kernel) ?_
                refine bk_p_isOpen C hw (by omega) d_Bk_reopen_166 (fun H locs hw => ?_)
                refine lv_aload_n hx hb d_Bk_reopen_169 rfl (lv_at hl 2 rfl) ?_
                refine bk_g_many C hw.1 d_Bk_reopen_170 ?_
                exact kr _ _ _ _ _ (1, nI (M 0 0), u69.1, u69.2) d_Bk_reopen_173 rfl hw ⟨(Or.inr (Or.inr (Or.inr ⟨hT2, h53, h69, fun e2 he2 => by rcases hw0 with ⟨-, g⟩ | g; exact g e2 (by omega); obtain ⟨⟨e3, g1, g2, -⟩, -⟩ := g; exact absurd ((h69.2 e3 (by omega)).2.1) (by omega), by rw [h69b], rfl⟩))), fun _ => ⟨rfl, h69b, h69c⟩⟩
              · refine lv_iconst (v := -1) hx hb d_Bk_reopen_160 (by decide +kernel) ?_
                refine lv_iload_n hx hb d_Bk_reopen_161 rfl (lv_at hl 1 rfl) ?_
                refine lv_isub hx hb d_Bk_reopen_162 ?_
                exact kr _ _ _ _ _ (0, nI (M 0 0), u69.1, u69.2) d_Bk_reopen_163 rfl hw ⟨(Or.inr (Or.inr (Or.inl ⟨hT2, h53, h69, ⟨w, by rcases hw0 with ⟨g, -⟩ | g; exact absurd g (by omega); rw [show q = M (M 0 0) 0 by omega] at g; exact g, rfl⟩, rfl⟩))), fun z => absurd z Nat.zero_ne_one⟩
            · have he := h69.2 q (by omega)
              have hEq : u69.2 q = M (M 0 0) (1 + q) := h69c q (by omega)
              refine lv_aload_n hx hb d_Bk_reopen_95 rfl (lv_at hl 2 rfl) ?_
              refine lv_aload_n hx hb d_Bk_reopen_96 rfl (lv_at hl 2 rfl) ?_
              refine bk_g_entries C hw.1 d_Bk_reopen_97 ?_
              refine lv_iload_n hx hb d_Bk_reopen_100 rfl (lv_at hl 0 rfl) ?_
              refine bk_l_entries C hw.1 (by have := h69.1; omega) d_Bk_reopen_101 ?_
              refine pb_vR (As := [.int (nI (u69.2 q))]) (rest := []) C hw.1 k_Bk_isRight m_76 (c_Bk_isRight l D a ra k n fs 0 (nI (M 0 0)) u69.1 0 fd pg u69.2 bl pl wa M (u69.2 q) hn64 hM (by have := h69.2 q (by omega); have := h69c q (by omega); omega)) rfl hl.1 0 0 rfl rfl rfl ⟨by decide, by decide⟩ ⟨Nat.zero_le _, Nat.zero_le _⟩ rfl (Nat.le_of_ble_eq_true rfl) d_Bk_reopen_102 (fun r102 h102 => ?_)
              rcases h102 with ⟨rfl, h102⟩ | ⟨rfl, h102⟩
              · refine pb_z (tgt := 137) (by decide) hx hb d_Bk_reopen_105 (by decide) (fun c_5 => absurd c_5 (by decide)) (fun _ => ?_)
                refine lv_aload_n hx hb d_Bk_reopen_108 rfl (lv_at hl 2 rfl) ?_
                refine lv_aload_n hx hb d_Bk_reopen_109 rfl (lv_at hl 2 rfl) ?_
                refine bk_g_entries C hw.1 d_Bk_reopen_110 ?_
                refine lv_iload_n hx hb d_Bk_reopen_113 rfl (lv_at hl 0 rfl) ?_
                refine bk_l_entries C hw.1 (by have := h69.1; omega) d_Bk_reopen_114 ?_
                refine pb_vR (As := [.int (nI (u69.2 q))]) (rest := []) C hw.1 k_Bk_sizeOf m_91 (c_Bk_sizeOf l D a ra k n fs 0 (nI (M 0 0)) u69.1 0 fd pg u69.2 bl pl wa M (u69.2 q) hn64 hM (by have := h69.2 q (by omega); have := h69c q (by omega); omega)) rfl hl.1 0 0 rfl rfl rfl ⟨by decide, by decide⟩ ⟨Nat.zero_le _, Nat.zero_le _⟩ rfl (Nat.le_of_ble_eq_true rfl) d_Bk_reopen_115 (fun r115 h115 => ?_)
                subst h115
                refine lv_iconst (v := nI 1) hx hb d_Bk_reopen_118 (by decide +kernel) ?_
                refine pb_lt (tgt := 137) (by have := hM (u69.2 q) 2; omega) (by omega) hx hb d_Bk_reopen_119 (by decide) (fun c_6 => ?_) (fun c_6 => ?_)
                · refine lv_iload_n hx hb d_Bk_reopen_137 rfl (lv_at hl 1 rfl) ?_
                  refine lv_aload_n hx hb d_Bk_reopen_138 rfl (lv_at hl 2 rfl) ?_
                  refine bk_g_entries C hw.1 d_Bk_reopen_139 ?_
                  refine lv_iload_n hx hb d_Bk_reopen_142 rfl (lv_at hl 0 rfl) ?_
                  refine bk_l_entries C hw.1 (by have := h69.1; omega) d_Bk_reopen_143 ?_
                  refine va_mmin (rest := []) hx hb (hml.trans hl.1.symm) hown (hG _ m_20) (hG _ m_21) (hG _ m_2) (hG _ m_22) (Nat.le_trans (by decide) hR1) (Nat.le_trans (Nat.le_of_ble_eq_true rfl) hR2) (Nat.zero_le _) (Nat.zero_le _) d_Bk_reopen_144 ?_
                  refine pb_top (show (if (nI (u69.2 q)) < (nI w) then (nI (u69.2 q)) else (nI w)) = nI (if u69.2 q < w then u69.2 q else w) from (pb_minN (by omega) (by omega))) ?_
                  refine lv_istore_n (lv' := [(1, .int (nI (if u69.2 q < w then u69.2 q else w))), (2, .int (nI q)), (0, .ref (a 0))]) hx hb d_Bk_reopen_147 rfl hl (by decide) rfl (fun ls hl => ?_)
                  refine lv_iinc (v := nI (q + 1)) (lv' := [(2, .int (nI (q + 1))), (1, .int (nI (if u69.2 q < w then u69.2 q else w))), (0, .ref (a 0))]) hx hb d_Bk_reopen_148 hl (k := 1) rfl (pb_i1 _) (by decide) rfl (fun ls hl => ?_)
                  refine lv_goto (tgt := 87) hx hb d_Bk_reopen_151 (by decide) ?_
                  exact ih (q + 1) (if u69.2 q < w then u69.2 q else w) _ _ _ (by omega) (by omega) (by split <;> omega) (by
                        have hno : ¬ pb_eok (M (M (M 0 0) (1 + q))) := fun z => absurd z.2.1 (by rw [← hEq]; omega)
                        rw [hEq]
                        exact pb_lb_no hw0 hno (by omega) hw64) hw (lv_sub hl [0, 1, 2] rfl)
                · refine lv_aload_n hx hb d_Bk_reopen_122 rfl (lv_at hl 2 rfl) ?_
                  refine lv_aload_n hx hb d_Bk_reopen_123 rfl (lv_at hl 2 rfl) ?_
                  refine bk_g_entries C hw.1 d_Bk_reopen_124 ?_
                  refine lv_iload_n hx hb d_Bk_reopen_127 rfl (lv_at hl 0 rfl) ?_
                  refine bk_l_entries C hw.1 (by have := h69.1; omega) d_Bk_reopen_128 ?_
                  refine pb_vR (As := [.int (nI (u69.2 q))]) (rest := []) C hw.1 k_Bk_sizeOf m_91 (c_Bk_sizeOf l D a ra k n fs 0 (nI (M 0 0)) u69.1 0 fd pg u69.2 bl pl wa M (u69.2 q) hn64 hM (by have := h69.2 q (by omega); have := h69c q (by omega); omega)) rfl hl.1 0 0 rfl rfl rfl ⟨by decide, by decide⟩ ⟨Nat.zero_le _, Nat.zero_le _⟩ rfl (Nat.le_of_ble_eq_true rfl) d_Bk_reopen_129 (fun r129 h129 => ?_)
                  subst h129
                  refine lv_bipush (v := nI 48) hx hb d_Bk_reopen_132 (by decide +kernel) ?_
                  refine pb_le (tgt := 148) (by have := hM (u69.2 q) 2; omega) (by omega) hx hb d_Bk_reopen_134 (by decide) (fun c_7 => ?_) (fun c_7 => ?_)
                  · refine lv_iinc (v := nI (q + 1)) (lv' := [(2, .int (nI (q + 1))), (1, .int (nI w)), (0, .ref (a 0))]) hx hb d_Bk_reopen_148 hl (k := 0) rfl (pb_i1 _) (by decide) rfl (fun ls hl => ?_)
                    refine lv_goto (tgt := 87) hx hb d_Bk_reopen_151 (by decide) ?_
                    exact ih (q + 1) w _ _ _ (by omega) (by omega) hw64 (by
                          have hok : pb_eok (M (M (M 0 0) (1 + q))) := ⟨by rw [← hEq]; exact h102, by rw [← hEq]; omega, by rw [← hEq]; omega⟩
                          exact pb_lb_ok hw0 hok) hw (lv_sub hl [0, 1, 2] rfl)
                  · refine lv_iload_n hx hb d_Bk_reopen_137 rfl (lv_at hl 1 rfl) ?_
                    refine lv_aload_n hx hb d_Bk_reopen_138 rfl (lv_at hl 2 rfl) ?_
                    refine bk_g_entries C hw.1 d_Bk_reopen_139 ?_
                    refine lv_iload_n hx hb d_Bk_reopen_142 rfl (lv_at hl 0 rfl) ?_
                    refine bk_l_entries C hw.1 (by have := h69.1; omega) d_Bk_reopen_143 ?_
                    refine va_mmin (rest := []) hx hb (hml.trans hl.1.symm) hown (hG _ m_20) (hG _ m_21) (hG _ m_2) (hG _ m_22) (Nat.le_trans (by decide) hR1) (Nat.le_trans (Nat.le_of_ble_eq_true rfl) hR2) (Nat.zero_le _) (Nat.zero_le _) d_Bk_reopen_144 ?_
                    refine pb_top (show (if (nI (u69.2 q)) < (nI w) then (nI (u69.2 q)) else (nI w)) = nI (if u69.2 q < w then u69.2 q else w) from (pb_minN (by omega) (by omega))) ?_
                    refine lv_istore_n (lv' := [(1, .int (nI (if u69.2 q < w then u69.2 q else w))), (2, .int (nI q)), (0, .ref (a 0))]) hx hb d_Bk_reopen_147 rfl hl (by decide) rfl (fun ls hl => ?_)
                    refine lv_iinc (v := nI (q + 1)) (lv' := [(2, .int (nI (q + 1))), (1, .int (nI (if u69.2 q < w then u69.2 q else w))), (0, .ref (a 0))]) hx hb d_Bk_reopen_148 hl (k := 1) rfl (pb_i1 _) (by decide) rfl (fun ls hl => ?_)
                    refine lv_goto (tgt := 87) hx hb d_Bk_reopen_151 (by decide) ?_
                    exact ih (q + 1) (if u69.2 q < w then u69.2 q else w) _ _ _ (by omega) (by omega) (by split <;> omega) (by
                          have hno : ¬ pb_eok (M (M (M 0 0) (1 + q))) := fun z => absurd z.2.2 (by rw [← hEq]; omega)
                          rw [hEq]
                          exact pb_lb_no hw0 hno (by omega) hw64) hw (lv_sub hl [0, 1, 2] rfl)
              · refine pb_z (tgt := 137) (by decide) hx hb d_Bk_reopen_105 (by decide) (fun _ => ?_) (fun c_5 => absurd c_5 (by decide))
                refine lv_iload_n hx hb d_Bk_reopen_137 rfl (lv_at hl 1 rfl) ?_
                refine lv_aload_n hx hb d_Bk_reopen_138 rfl (lv_at hl 2 rfl) ?_
                refine bk_g_entries C hw.1 d_Bk_reopen_139 ?_
                refine lv_iload_n hx hb d_Bk_reopen_142 rfl (lv_at hl 0 rfl) ?_
                refine bk_l_entries C hw.1 (by have := h69.1; omega) d_Bk_reopen_143 ?_
                refine va_mmin (rest := []) hx hb (hml.trans hl.1.symm) hown (hG _ m_20) (hG _ m_21) (hG _ m_2) (hG _ m_22) (Nat.le_trans (by decide) hR1) (Nat.le_trans (Nat.le_of_ble_eq_true rfl) hR2) (Nat.zero_le _) (Nat.zero_le _) d_Bk_reopen_144 ?_
                refine pb_top (show (if (nI (u69.2 q)) < (nI w) then (nI (u69.2 q)) else (nI w)) = nI (if u69.2 q < w then u69.2 q else w) from (pb_minN (by omega) (by omega))) ?_
                refine lv_istore_n (lv' := [(1, .int (nI (if u69.2 q < w then u69.2 q else w))), (2, .int (nI q)), (0, .ref (a 0))]) hx hb d_Bk_reopen_147 rfl hl (by decide) rfl (fun ls hl => ?_)
                refine lv_iinc (v := nI (q + 1)) (lv' := [(2, .int (nI (q + 1))), (1, .int (nI (if u69.2 q < w then u69.2 q else w))), (0, .ref (a 0))]) hx hb d_Bk_reopen_148 hl (k := 1) rfl (pb_i1 _) (by decide) rfl (fun ls hl => ?_)
                refine lv_goto (tgt := 87) hx hb d_Bk_reopen_151 (by decide) ?_
                exact ih (q + 1) (if u69.2 q < w then u69.2 q else w) _ _ _ (by omega) (by omega) (by split <;> omega) (by
                      have hno : ¬ pb_eok (M (M (M 0 0) (1 + q))) := fun z => h102 (by rw [hEq]; exact z.1)
                      rw [hEq]
                      exact pb_lb_no hw0 hno (by omega) hw64) hw (lv_sub hl [0, 1, 2] rfl)
        exact loop87 (M (M 0 0) 0 + 1) 0 64 _ _ _ (by omega) (by omega) (by omega) (Or.inl ⟨rfl, fun z hz => absurd hz (Nat.not_lt_zero z)⟩) hw (lv_sub hl [0, 1, 2] rfl)
      · refine pb_nz (tgt := 82) (by decide) hx hb d_Bk_reopen_72 (by decide) (fun c_3 => absurd c_3 (by decide)) (fun _ => ?_)
        refine lv_iconst (v := -1) hx hb d_Bk_reopen_75 (by decide +kernel) ?_
        refine lv_aload_n hx hb d_Bk_reopen_76 rfl (lv_at hl 0 rfl) ?_
        refine bk_g_turn C hw.1 d_Bk_reopen_77 ?_
        refine lv_isub hx hb d_Bk_reopen_80 ?_
        exact kr _ _ _ _ _ (0, nI (M 0 0), u69.1, u69.2) d_Bk_reopen_81 rfl hw ⟨(Or.inr (Or.inl ⟨hT2, fun z => h69 z.2, rfl, rfl⟩)), fun z => absurd z Nat.zero_ne_one⟩
    · refine pb_z (tgt := 75) (by decide) hx hb d_Bk_reopen_56 (by decide) (fun _ => ?_) (fun c_2 => absurd c_2 (by decide))
      refine lv_iconst (v := -1) hx hb d_Bk_reopen_75 (by decide +kernel) ?_
      refine lv_aload_n hx hb d_Bk_reopen_76 rfl (lv_at hl 0 rfl) ?_
      refine bk_g_turn C hw.1 d_Bk_reopen_77 ?_
      refine lv_isub hx hb d_Bk_reopen_80 ?_
      exact kr _ _ _ _ _ (0, nI (M 0 0), 0, en) d_Bk_reopen_81 rfl hw ⟨(Or.inr (Or.inl ⟨hT2, fun z => h53 z.1, rfl, rfl⟩)), fun z => absurd z Nat.zero_ne_one⟩
  · refine lv_aload_n hx hb d_Bk_reopen_38 rfl (lv_at hl 0 rfl) ?_
    refine bk_g_turn C hw.1 d_Bk_reopen_39 ?_
    refine lv_iconst (v := nI 2) hx hb d_Bk_reopen_42 (by decide +kernel) ?_
    refine lv_icmp_eq (tgt := 48) hx hb d_Bk_reopen_43 (by decide) (fun c_2 => ?_) (fun c_2 => ?_)
    · have hT : M 0 0 = 2 := pb_sb_inj _ (hM 0 0) 2 (by decide) (c_2.trans (by decide +kernel))
      have hTn : M 0 0 < n := by omega
      have hT2 : M 0 0 = 1 ∨ M 0 0 = 2 := by omega
      have hTs : sb_b (M 0 0) = nI (M 0 0) := by rw [hT]; decide +kernel
      rw [hTs] at hw
      refine lv_aload_n hx hb d_Bk_reopen_48 rfl (lv_at hl 0 rfl) ?_
      refine lv_aload_n hx hb d_Bk_reopen_49 rfl (lv_at hl 0 rfl) ?_
      refine bk_g_turn C hw.1 d_Bk_reopen_50 ?_
      refine pb_vR (As := [.int (nI (M 0 0))]) (rest := []) C hw.1 k_Bk_isRight m_76 (c_Bk_isRight l D a ra k n fs 0 (nI (M 0 0)) 0 0 fd pg en bl pl wa M (M 0 0) hn64 hM (by omega)) rfl hl.1 0 0 rfl rfl rfl ⟨by decide, by decide⟩ ⟨Nat.zero_le _, Nat.zero_le _⟩ rfl (Nat.le_of_ble_eq_true rfl) d_Bk_reopen_53 (fun r53 h53 => ?_)
      rcases h53 with ⟨rfl, h53⟩ | ⟨rfl, h53⟩
      · refine pb_z (tgt := 75) (by decide) hx hb d_Bk_reopen_56 (by decide) (fun c_3 => absurd c_3 (by decide)) (fun _ => ?_)
        refine lv_aload_n hx hb d_Bk_reopen_59 rfl (lv_at hl 0 rfl) ?_
        refine lv_aload_n hx hb d_Bk_reopen_60 rfl (lv_at hl 0 rfl) ?_
        refine bk_g_store C hw.1 d_Bk_reopen_61 ?_
        refine lv_aload_n hx hb d_Bk_reopen_64 rfl (lv_at hl 0 rfl) ?_
        refine bk_g_turn C hw.1 d_Bk_reopen_65 ?_
        refine bk_row C hw.1 (by omega) hn64 d_Bk_reopen_68 ?_
        refine pb_vI (As := [.ref (ra (M 0 0))]) (rest := []) C hA hw k_Bk_reads m_83 (c_Bk_reads l D a ra k n fs 0 (nI (M 0 0)) 0 fd pg en bl pl wa M (M 0 0) _ hn64 hn4 hM (by omega)) rfl hl.1 0 0 rfl rfl rfl ⟨by decide, by decide⟩ ⟨Nat.zero_le _, Nat.zero_le _⟩ rfl (Nat.le_of_ble_eq_true rfl) d_Bk_reopen_69 (fun r69 u69 H locs h69 hw => ?_)
        rcases h69 with ⟨rfl, h69, h69b, h69c⟩ | ⟨rfl, h69⟩
        · refine pb_nz (tgt := 82) (by decide) hx hb d_Bk_reopen_72 (by decide) (fun _ => ?_) (fun c_4 => absurd c_4 (by decide))
          refine lv_bipush (v := nI 64) hx hb d_Bk_reopen_82 (by decide +kernel) ?_
          refine lv_istore_n (lv' := [(1, .int (nI 64)), (0, .ref (a 0))]) hx hb d_Bk_reopen_84 rfl hl (by decide) rfl (fun ls hl => ?_)
          refine lv_iconst (v := nI 0) hx hb d_Bk_reopen_85 (by decide +kernel) ?_
          refine lv_istore_n (lv' := [(2, .int (nI 0)), (1, .int (nI 64)), (0, .ref (a 0))]) hx hb d_Bk_reopen_86 rfl hl (by decide) rfl (fun ls hl => ?_)
          have loop87 : ∀ (fu : Nat) (q w : Nat) (H : Heap) (locs : List Loc) (ls : Array Slot), (q ≤ M (M 0 0) 0) → (M (M 0 0) 0 + 1 ≤ q + fu) → (w ≤ 64) → (pb_lb M (M 0 0) q w) → pb_W D A s.heap (bk_W a ra k n fs 0 (nI (M 0 0)) u69.1 0 fd pg u69.2 bl pl wa M) H locs → lv_has ls 3 [(2, .int (nI q)), (1, .int (nI w)), (0, .ref (a 0))] → W p l e R s m args below meth c H locs 0 0 Q (F0 m 87 ls []) := by
            intro fu
            induction fu with
            | zero =>
              intro q w H locs ls h1 hn hw64 hw0
              exfalso
              omega
            | succ fu ih =>
              intro q w H locs ls h1 hn hw64 hw0 hw hl
              refine lv_iload_n hx hb d_Bk_reopen_87 rfl (lv_at hl 0 rfl) ?_
              refine lv_aload_n hx hb d_Bk_reopen_88 rfl (lv_at hl 2 rfl) ?_
              refine bk_g_many C hw.1 d_Bk_reopen_89 ?_
              refine pb_ge (tgt := 154) (by have := h69.1; omega) (by have := h69.1; omega) hx hb d_Bk_reopen_92 (by decide) (fun c_5 => ?_) (fun c_5 => ?_)
              · refine lv_iload_n hx hb d_Bk_reopen_154 rfl (lv_at hl 1 rfl) ?_
                refine lv_bipush (v := nI 64) hx hb d_Bk_reopen_155 (by decide +kernel) ?_
                refine pb_ge (tgt := 164) (by omega) (by omega) hx hb d_Bk_reopen_157 (by decide) (fun c_6 => ?_) (fun c_6 => ?_)
                · refine lv_aload_n hx hb d_Bk_reopen_164 rfl (lv_at hl 2 rfl) ?_
                  refine lv_iconst (v := nI 1) hx hb d_Bk_reopen_165 (by decide +kernel) ?_
                  refine bk_p_isOpen C hw (by omega) d_Bk_reopen_166 (fun H locs hw => ?_)
                  refine lv_aload_n hx hb d_Bk_reopen_169 rfl (lv_at hl 2 rfl) ?_
                  refine bk_g_many C hw.1 d_Bk_reopen_170 ?_
                  exact kr _ _ _ _ _ (1, nI (M 0 0), u69.1, u69.2) d_Bk_reopen_173 rfl hw ⟨(Or.inr (Or.inr (Or.inr ⟨hT2, h53, h69, fun e2 he2 => by rcases hw0 with ⟨-, g⟩ | g; exact g e2 (by omega); obtain ⟨⟨e3, g1, g2, -⟩, -⟩ := g; exact absurd ((h69.2 e3 (by omega)).2.1) (by omega), by rw [h69b], rfl⟩))), fun _ => ⟨rfl, h69b, h69c⟩⟩
                · refine lv_iconst (v := -1) hx hb d_Bk_reopen_160 (by decide +kernel) ?_
                  refine lv_iload_n hx hb d_Bk_reopen_161 rfl (lv_at hl 1 rfl) ?_
                  refine lv_isub hx hb d_Bk_reopen_162 ?_
                  exact kr _ _ _ _ _ (0, nI (M 0 0), u69.1, u69.2) d_Bk_reopen_163 rfl hw ⟨(Or.inr (Or.inr (Or.inl ⟨hT2, h53, h69, ⟨w, by rcases hw0 with ⟨g, -⟩ | g; exact absurd g (by omega); rw [show q = M (M 0 0) 0 by omega] at g; exact g, rfl⟩, rfl⟩))), fun z => absurd z Nat.zero_ne_one⟩
              · have he := h69.2 q (by omega)
                have hEq : u69.2 q = M (M 0 0) (1 + q) := h69c q (by omega)
                refine lv_aload_n hx hb d_Bk_reopen_95 rfl (lv_at hl 2 rfl) ?_
                refine lv_aload_n hx hb d_Bk_reopen_96 rfl (lv_at hl 2 rfl) ?_
                refine bk_g_entries C hw.1 d_Bk_reopen_97 ?_
                refine lv_iload_n hx hb d_Bk_reopen_100 rfl (lv_at hl 0 rfl) ?_
                refine bk_l_entries C hw.1 (by have := h69.1; omega) d_Bk_reopen_101 ?_
                refine pb_vR (As := [.int (nI (u69.2 q))]) (rest := []) C hw.1 k_Bk_isRight m_76 (c_Bk_isRight l D a ra k n fs 0 (nI (M 0 0)) u69.1 0 fd pg u69.2 bl pl wa M (u69.2 q) hn64 hM (by have := h69.2 q (by omega); have := h69c q (by omega); omega)) rfl hl.1 0 0 rfl rfl rfl ⟨by decide, by decide⟩ ⟨Nat.zero_le _, Nat.zero_le _⟩ rfl (Nat.le_of_ble_eq_true rfl) d_Bk_reopen_102 (fun r102 h102 => ?_)
                rcases h102 with ⟨rfl, h102⟩ | ⟨rfl, h102⟩
                · refine pb_z (tgt := 137) (by decide) hx hb d_Bk_reopen_105 (by decide) (fun c_6 => absurd c_6 (by decide)) (fun _ => ?_)
                  refine lv_aload_n hx hb d_Bk_reopen_108 rfl (lv_at hl 2 rfl) ?_
                  refine lv_aload_n hx hb d_Bk_reopen_109 rfl (lv_at hl 2 rfl) ?_
                  refine bk_g_entries C hw.1 d_Bk_reopen_110 ?_
                  refine lv_iload_n hx hb d_Bk_reopen_113 rfl (lv_at hl 0 rfl) ?_
                  refine bk_l_entries C hw.1 (by have := h69.1; omega) d_Bk_reopen_114 ?_
                  refine pb_vR (As := [.int (nI (u69.2 q))]) (rest := []) C hw.1 k_Bk_sizeOf m_91 (c_Bk_sizeOf l D a ra k n fs 0 (nI (M 0 0)) u69.1 0 fd pg u69.2 bl pl wa M (u69.2 q) hn64 hM (by have := h69.2 q (by omega); have := h69c q (by omega); omega)) rfl hl.1 0 0 rfl rfl rfl ⟨by decide, by decide⟩ ⟨Nat.zero_le _, Nat.zero_le _⟩ rfl (Nat.le_of_ble_eq_true rfl) d_Bk_reopen_115 (fun r115 h115 => ?_)
                  subst h115
                  refine lv_iconst (v := nI 1) hx hb d_Bk_reopen_118 (by decide +kernel) ?_
                  refine pb_lt (tgt := 137) (by have := hM (u69.2 q) 2; omega) (by omega) hx hb d_Bk_reopen_119 (by decide) (fun c_7 => ?_) (fun c_7 => ?_)
                  · refine lv_iload_n hx hb d_Bk_reopen_137 rfl (lv_at hl 1 rfl) ?_
                    refine lv_aload_n hx hb d_Bk_reopen_138 rfl (lv_at hl 2 rfl) ?_
                    refine bk_g_entries C hw.1 d_Bk_reopen_139 ?_
                    refine lv_iload_n hx hb d_Bk_reopen_142 rfl (lv_at hl 0 rfl) ?_
                    refine bk_l_entries C hw.1 (by have := h69.1; omega) d_Bk_reopen_143 ?_
                    refine va_mmin (rest := []) hx hb (hml.trans hl.1.symm) hown (hG _ m_20) (hG _ m_21) (hG _ m_2) (hG _ m_22) (Nat.le_trans (by decide) hR1) (Nat.le_trans (Nat.le_of_ble_eq_true rfl) hR2) (Nat.zero_le _) (Nat.zero_le _) d_Bk_reopen_144 ?_
                    refine pb_top (show (if (nI (u69.2 q)) < (nI w) then (nI (u69.2 q)) else (nI w)) = nI (if u69.2 q < w then u69.2 q else w) from (pb_minN (by omega) (by omega))) ?_
                    refine lv_istore_n (lv' := [(1, .int (nI (if u69.2 q < w then u69.2 q else w))), (2, .int (nI q)), (0, .ref (a 0))]) hx hb d_Bk_reopen_147 rfl hl (by decide) rfl (fun ls hl => ?_)
                    refine lv_iinc (v := nI (q + 1)) (lv' := [(2, .int (nI (q + 1))), (1, .int (nI (if u69.2 q < w then u69.2 q else w))), (0, .ref (a 0))]) hx hb d_Bk_reopen_148 hl (k := 1) rfl (pb_i1 _) (by decide) rfl (fun ls hl => ?_)
                    refine lv_goto (tgt := 87) hx hb d_Bk_reopen_151 (by decide) ?_
                    exact ih (q + 1) (if u69.2 q < w then u69.2 q else w) _ _ _ (by omega) (by omega) (by split <;> omega) (by
                          have hno : ¬ pb_eok (M (M (M 0 0) (1 + q))) := fun z => absurd z.2.1 (by rw [← hEq]; omega)
                          rw [hEq]
                          exact pb_lb_no hw0 hno (by omega) hw64) hw (lv_sub hl [0, 1, 2] rfl)
                  · refine lv_aload_n hx hb d_Bk_reopen_122 rfl (lv_at hl 2 rfl) ?_
                    refine lv_aload_n hx hb d_Bk_reopen_123 rfl (lv_at hl 2 rfl) ?_
                    refine bk_g_entries C hw.1 d_Bk_reopen_124 ?_
                    refine lv_iload_n hx hb d_Bk_reopen_127 rfl (lv_at hl 0 rfl) ?_
                    refine bk_l_entries C hw.1 (by have := h69.1; omega) d_Bk_reopen_128 ?_
                    refine pb_vR (As := [.int (nI (u69.2 q))]) (rest := []) C hw.1 k_Bk_sizeOf m_91 (c_Bk_sizeOf l D a ra k n fs 0 (nI (M 0 0)) u69.1 0 fd pg u69.2 bl pl wa M (u69.2 q) hn64 hM (by have := h69.2 q (by omega); have := h69c q (by omega); omega)) rfl hl.1 0 0 rfl rfl rfl ⟨by decide, by decide⟩ ⟨Nat.zero_le _, Nat.zero_le _⟩ rfl (Nat.le_of_ble_eq_true rfl) d_Bk_reopen_129 (fun r129 h129 => ?_)
                    subst h129
                    refine lv_bipush (v := nI 48) hx hb d_Bk_reopen_132 (by decide +kernel) ?_
                    refine pb_le (tgt := 148) (by have := hM (u69.2 q) 2; omega) (by omega) hx hb d_Bk_reopen_134 (by decide) (fun c_8 => ?_) (fun c_8 => ?_)
                    · refine lv_iinc (v := nI (q + 1)) (lv' := [(2, .int (nI (q + 1))), (1, .int (nI w)), (0, .ref (a 0))]) hx hb d_Bk_reopen_148 hl (k := 0) rfl (pb_i1 _) (by decide) rfl (fun ls hl => ?_)
                      refine lv_goto (tgt := 87) hx hb d_Bk_reopen_151 (by decide) ?_
                      exact ih (q + 1) w _ _ _ (by omega) (by omega) hw64 (by
                            have hok : pb_eok (M (M (M 0 0) (1 + q))) := ⟨by rw [← hEq]; exact h102, by rw [← hEq]; omega, by rw [← hEq]; omega⟩
                            exact pb_lb_ok hw0 hok) hw (lv_sub hl [0, 1, 2] rfl)
                    · refine lv_iload_n hx hb d_Bk_reopen_137 rfl (lv_at hl 1 rfl) ?_
                      refine lv_aload_n hx hb d_Bk_reopen_138 rfl (lv_at hl 2 rfl) ?_
                      refine bk_g_entries C hw.1 d_Bk_reopen_139 ?_
                      refine lv_iload_n hx hb d_Bk_reopen_142 rfl (lv_at hl 0 rfl) ?_
                      refine bk_l_entries C hw.1 (by have := h69.1; omega) d_Bk_reopen_143 ?_
                      refine va_mmin (rest := []) hx hb (hml.trans hl.1.symm) hown (hG _ m_20) (hG _ m_21) (hG _ m_2) (hG _ m_22) (Nat.le_trans (by decide) hR1) (Nat.le_trans (Nat.le_of_ble_eq_true rfl) hR2) (Nat.zero_le _) (Nat.zero_le _) d_Bk_reopen_144 ?_
                      refine pb_top (show (if (nI (u69.2 q)) < (nI w) then (nI (u69.2 q)) else (nI w)) = nI (if u69.2 q < w then u69.2 q else w) from (pb_minN (by omega) (by omega))) ?_
                      refine lv_istore_n (lv' := [(1, .int (nI (if u69.2 q < w then u69.2 q else w))), (2, .int (nI q)), (0, .ref (a 0))]) hx hb d_Bk_reopen_147 rfl hl (by decide) rfl (fun ls hl => ?_)
                      refine lv_iinc (v := nI (q + 1)) (lv' := [(2, .int (nI (q + 1))), (1, .int (nI (if u69.2 q < w then u69.2 q else w))), (0, .ref (a 0))]) hx hb d_Bk_reopen_148 hl (k := 1) rfl (pb_i1 _) (by decide) rfl (fun ls hl => ?_)
                      refine lv_goto (tgt := 87) hx hb d_Bk_reopen_151 (by decide) ?_
                      exact ih (q + 1) (if u69.2 q < w then u69.2 q else w) _ _ _ (by omega) (by omega) (by split <;> omega) (by
                            have hno : ¬ pb_eok (M (M (M 0 0) (1 + q))) := fun z => absurd z.2.2 (by rw [← hEq]; omega)
                            rw [hEq]
                            exact pb_lb_no hw0 hno (by omega) hw64) hw (lv_sub hl [0, 1, 2] rfl)
                · refine pb_z (tgt := 137) (by decide) hx hb d_Bk_reopen_105 (by decide) (fun _ => ?_) (fun c_6 => absurd c_6 (by decide))
                  refine lv_iload_n hx hb d_Bk_reopen_137 rfl (lv_at hl 1 rfl) ?_
                  refine lv_aload_n hx hb d_Bk_reopen_138 rfl (lv_at hl 2 rfl) ?_
                  refine bk_g_entries C hw.1 d_Bk_reopen_139 ?_
                  refine lv_iload_n hx hb d_Bk_reopen_142 rfl (lv_at hl 0 rfl) ?_
                  refine bk_l_entries C hw.1 (by have := h69.1; omega) d_Bk_reopen_143 ?_
                  refine va_mmin (rest := []) hx hb (hml.trans hl.1.symm) hown (hG _ m_20) (hG _ m_21) (hG _ m_2) (hG _ m_22) (Nat.le_trans (by decide) hR1) (Nat.le_trans (Nat.le_of_ble_eq_true rfl) hR2) (Nat.zero_le _) (Nat.zero_le _) d_Bk_reopen_144 ?_
                  refine pb_top (show (if (nI (u69.2 q)) < (nI w) then (nI (u69.2 q)) else (nI w)) = nI (if u69.2 q < w then u69.2 q else w) from (pb_minN (by omega) (by omega))) ?_
                  refine lv_istore_n (lv' := [(1, .int (nI (if u69.2 q < w then u69.2 q else w))), (2, .int (nI q)), (0, .ref (a 0))]) hx hb d_Bk_reopen_147 rfl hl (by decide) rfl (fun ls hl => ?_)
                  refine lv_iinc (v := nI (q + 1)) (lv' := [(2, .int (nI (q + 1))), (1, .int (nI (if u69.2 q < w then u69.2 q else w))), (0, .ref (a 0))]) hx hb d_Bk_reopen_148 hl (k := 1) rfl (pb_i1 _) (by decide) rfl (fun ls hl => ?_)
                  refine lv_goto (tgt := 87) hx hb d_Bk_reopen_151 (by decide) ?_
                  exact ih (q + 1) (if u69.2 q < w then u69.2 q else w) _ _ _ (by omega) (by omega) (by split <;> omega) (by
                        have hno : ¬ pb_eok (M (M (M 0 0) (1 + q))) := fun z => h102 (by rw [hEq]; exact z.1)
                        rw [hEq]
                        exact pb_lb_no hw0 hno (by omega) hw64) hw (lv_sub hl [0, 1, 2] rfl)
          exact loop87 (M (M 0 0) 0 + 1) 0 64 _ _ _ (by omega) (by omega) (by omega) (Or.inl ⟨rfl, fun z hz => absurd hz (Nat.not_lt_zero z)⟩) hw (lv_sub hl [0, 1, 2] rfl)
        · refine pb_nz (tgt := 82) (by decide) hx hb d_Bk_reopen_72 (by decide) (fun c_4 => absurd c_4 (by decide)) (fun _ => ?_)
          refine lv_iconst (v := -1) hx hb d_Bk_reopen_75 (by decide +kernel) ?_
          refine lv_aload_n hx hb d_Bk_reopen_76 rfl (lv_at hl 0 rfl) ?_
          refine bk_g_turn C hw.1 d_Bk_reopen_77 ?_
          refine lv_isub hx hb d_Bk_reopen_80 ?_
          exact kr _ _ _ _ _ (0, nI (M 0 0), u69.1, u69.2) d_Bk_reopen_81 rfl hw ⟨(Or.inr (Or.inl ⟨hT2, fun z => h69 z.2, rfl, rfl⟩)), fun z => absurd z Nat.zero_ne_one⟩
      · refine pb_z (tgt := 75) (by decide) hx hb d_Bk_reopen_56 (by decide) (fun _ => ?_) (fun c_3 => absurd c_3 (by decide))
        refine lv_iconst (v := -1) hx hb d_Bk_reopen_75 (by decide +kernel) ?_
        refine lv_aload_n hx hb d_Bk_reopen_76 rfl (lv_at hl 0 rfl) ?_
        refine bk_g_turn C hw.1 d_Bk_reopen_77 ?_
        refine lv_isub hx hb d_Bk_reopen_80 ?_
        exact kr _ _ _ _ _ (0, nI (M 0 0), 0, en) d_Bk_reopen_81 rfl hw ⟨(Or.inr (Or.inl ⟨hT2, fun z => h53 z.1, rfl, rfl⟩)), fun z => absurd z Nat.zero_ne_one⟩
    · refine lv_iconst (v := -1) hx hb d_Bk_reopen_46 (by decide +kernel) ?_
      exact kr _ _ _ _ _ (0, sb_b (M 0 0), 0, en) d_Bk_reopen_47 rfl hw ⟨(Or.inl ⟨fun z => c_1 (by rw [z]; decide +kernel), fun z => c_2 (by rw [z]; decide +kernel), rfl, rfl⟩), fun z => absurd z Nat.zero_ne_one⟩
end
section
-- ===== rows for the reference =====
section MDF
variable {p : Program} {l : Launch} {e : Env} {R : Room} {s : State} {m : MethodId} {args : Array Value} {below : List Frame} {meth : Method} {c : Code} {H : Heap} {locs : List Loc} {cells slots : Nat} {Q : State → Prop}
variable {cc : ByteArray} {pc : Nat} {ls : Array Slot} {rest : List Value} {D : va_G} {k : Nat → ClassId} {own : String} {nL fr lo : Nat} {A : Nat → Prop} {H0 : Heap}
theorem md_lf {a : Nat → Nat} {n op tn mn th fl wr : Nat} {M : Nat → Nat → Nat} {bl fd wh bf : Nat → Nat} {b i j : Nat} (C : pb_C D k own cc nL fr lo p R s m args c) (hP : va_P D pb_cl (md_W a k n op tn mn th fl wr (pb_flat M) bl fd wh bf) H) (hb : b < 64) (hi : i < 64) (hj : j = 64 * b + i) (hdg : decode cc pc = .ok (.iaload, 1)) (kk : W p l e R s m args below meth c H locs cells slots Q (F0 m (pc + 1) ls (.int (nI (M b i)) :: rest))) : W p l e R s m args below meth c H locs cells slots Q (F0 m pc ls (.int (nI j) :: .ref (a 1) :: rest)) := by
  subst hj
  refine md_l_store C hP (by omega) hdg ?_
  rw [pb_flat_at hi]
  exact kk
theorem md_sf {a : Nat → Nat} {n op tn mn th fl wr : Nat} {M : Nat → Nat → Nat} {bl fd wh bf : Nat → Nat} {b i j v : Nat} (C : pb_C D k own cc nL fr lo p R s m args c) (hw : pb_W D A H0 (md_W a k n op tn mn th fl wr (pb_flat M) bl fd wh bf) H locs) (hb : b < 64) (hi : i < 64) (hj : j = 64 * b + i) (hdg : decode cc pc = .ok (.iastore, 1)) (kk : ∀ (H : Heap) (locs : List Loc), pb_W D A H0 (md_W a k n op tn mn th fl wr (pb_flat (pb_put1 M b i v)) bl fd wh bf) H locs → W p l e R s m args below meth c H locs cells slots Q (F0 m (pc + 1) ls rest)) : W p l e R s m args below meth c H locs cells slots Q (F0 m pc ls (.int (nI v) :: .int (nI j) :: .ref (a 1) :: rest)) := by
  subst hj
  refine md_s_store C hw (by omega) hdg (fun H locs h => kk H locs ?_)
  rw [pb_flat_up hi] at h
  exact h
end MDF
theorem pb_seal_in {f : Nat → Nat} {j : Nat} (h : j < 60) : pb_seal f j = f j := pb_fill_out (Or.inl h)
theorem pb_seal_sum (f : Nat → Nat) : pb_sum (pb_seal f) 60 = pb_sum f 60 := pb_sum_congr 60 (fun i hi => pb_seal_in hi)
theorem pb_seal_end {f : Nat → Nat} {j : Nat} (h : j < 4) : pb_seal f (60 + j) = pb_sb (pb_sum (pb_seal f) 60) j := by
  rw [pb_seal_sum]
  unfold pb_seal
  rw [pb_fill_in (by omega) (by omega), Nat.add_sub_cancel_left]
/-- a page that is being written: c places of it stand -/
abbrev md_P (a : Nat → Nat) (k : Nat → ClassId) (n op tn mn th fl wr : Nat) (M : Nat → Nat → Nat) (bl fd wh bf : Nat → Nat) (b c : Nat) (pg : Nat → Nat) : va_W :=
  md_W a k n op tn mn th fl (wr + c) (pb_flat (pb_rowf M b c pg)) bl fd (pb_fill wh wr c (fun j => 64 * b + j)) (pb_fill bf wr c (fun j => M b j))
theorem md_P0 {a : Nat → Nat} {k : Nat → ClassId} {n op tn mn th fl wr : Nat} {M : Nat → Nat → Nat} {bl fd wh bf : Nat → Nat} {b : Nat} {pg : Nat → Nat} : md_P a k n op tn mn th fl wr M bl fd wh bf b 0 pg = md_W a k n op tn mn th fl wr (pb_flat M) bl fd wh bf := by
  unfold md_P
  rw [pb_fill_0, pb_fill_0, pb_rowf_0]
  rfl
theorem pb_at_lt {kk bu mn : Nat} (h1 : 1 ≤ kk) (h : kk ≤ pb_cnt mn bu) : (if kk - 1 < bu then kk - 1 else kk) < mn := by
  unfold pb_cnt at h
  split at h <;> split <;> omega
end
section
-- ===== contracts of the reference's own methods (by gen/m5.py) =====
set_option maxHeartbeats 4000000 in
set_option maxRecDepth 100000 in
theorem c_Md_thrown (l : Launch) (D : va_G) (a : Nat → Nat) (k : Nat → ClassId) (n : Nat) (op : Nat) (tn : Nat) (mn : Nat) (th : Nat) (fl : Nat) (wr : Nat) (bl : Nat → Nat) (fd : Nat → Nat) (wh : Nat → Nat) (bf : Nat → Nat) (M : Nat → Nat → Nat)   : Met l y_Md_thrown (pb_ws y_Md_thrown b_Md_thrown 1 (some .int)) (pb_rm 0 0 0) (pb_Pr D k [.ref (a 0)] (md_W a k n op tn mn th fl wr (pb_flat M) bl fd wh bf)) (vp_Si (fun r : Int32 => r = nI th)) 0 0 (fun _ => False) := by
  refine pb_mkR R_Md rfl (by decide) (Nat.le_of_ble_eq_true rfl) ?_
  intro p e R s m args below meth c Q ls C hP hl kr
  obtain ⟨hx, hb, hml, hown, hG, hkn, hR1, hR2⟩ := id C
  have hl : lv_has ls 1 [(0, .ref (a 0))] := hl
  refine lv_aload_n hx hb d_Md_thrown_0 rfl (lv_at hl 0 rfl) ?_
  refine md_g_thrown C hP d_Md_thrown_1 ?_
  exact kr _ _ _ d_Md_thrown_4 rfl rfl
set_option maxHeartbeats 4000000 in
set_option maxRecDepth 100000 in
theorem c_Md_sumOf (l : Launch) (D : va_G) (a : Nat → Nat) (k : Nat → ClassId) (n : Nat) (op : Nat) (tn : Nat) (mn : Nat) (th : Nat) (fl : Nat) (wr : Nat) (bl : Nat → Nat) (fd : Nat → Nat) (wh : Nat → Nat) (bf : Nat → Nat) (M : Nat → Nat → Nat) (b : Nat) (hb64 : b < 64) : Met l y_Md_sumOf (pb_ws y_Md_sumOf b_Md_sumOf 4 (some .int)) (pb_rm 0 0 0) (pb_Pr D k [.ref (a 0), .int (nI b)] (md_W a k n op tn mn th fl wr (pb_flat M) bl fd wh bf)) (vp_Si (fun r : Int32 => r = pb_sum (M b) 60)) 0 0 (fun _ => False) := by
  refine pb_mkR R_Md rfl (by decide) (Nat.le_of_ble_eq_true rfl) ?_
  intro p e R s m args below meth c Q ls C hP hl kr
  obtain ⟨hx, hb, hml, hown, hG, hkn, hR1, hR2⟩ := id C
  have hl : lv_has ls 4 [(0, .ref (a 0)), (1, .int (nI b))] := hl
  refine lv_iconst (v := nI 1) hx hb d_Md_sumOf_0 (by decide +kernel) ?_
  refine lv_istore_n (lv' := [(2, .int (nI 1)), (0, .ref (a 0)), (1, .int (nI b))]) hx hb d_Md_sumOf_1 rfl hl (by decide) rfl (fun ls hl => ?_)
  refine lv_iconst (v := nI 0) hx hb d_Md_sumOf_2 (by decide +kernel) ?_
  refine lv_istore_n (lv' := [(3, .int (nI 0)), (2, .int (nI 1)), (0, .ref (a 0)), (1, .int (nI b))]) hx hb d_Md_sumOf_3 rfl hl (by decide) rfl (fun ls hl => ?_)
  have loop4 : ∀ (fu : Nat) (i : Nat) (x : Int32) (ls : Array Slot), (i ≤ 60) → (60 + 1 ≤ i + fu) → (x = pb_sum (M b) i) → lv_has ls 4 [(3, .int (nI i)), (2, .int x), (0, .ref (a 0)), (1, .int (nI b))] → W p l e R s m args below meth c s.heap [] 0 0 Q (F0 m 4 ls []) := by
    intro fu
    induction fu with
    | zero =>
      intro i x ls hi hn hx1
      exfalso
      omega
    | succ fu ih =>
      intro i x ls hi hn hx1 hl
      refine lv_iload_n hx hb d_Md_sumOf_4 rfl (lv_at hl 0 rfl) ?_
      refine lv_bipush (v := nI 60) hx hb d_Md_sumOf_5 (by decide +kernel) ?_
      refine pb_ge (tgt := 45) (by omega) (by omega) hx hb d_Md_sumOf_7 (by decide) (fun c_1 => ?_) (fun c_1 => ?_)
      · refine lv_iload_n hx hb d_Md_sumOf_45 rfl (lv_at hl 1 rfl) ?_
        exact kr _ _ _ d_Md_sumOf_46 rfl (by rw [hx1, show i = 60 by omega])
      · refine lv_iload_n hx hb d_Md_sumOf_10 rfl (lv_at hl 1 rfl) ?_
        refine lv_aload_n hx hb d_Md_sumOf_11 rfl (lv_at hl 2 rfl) ?_
        refine md_g_store C hP d_Md_sumOf_12 ?_
        refine lv_bipush (v := nI 64) hx hb d_Md_sumOf_15 (by decide +kernel) ?_
        refine lv_iload_n hx hb d_Md_sumOf_17 rfl (lv_at hl 3 rfl) ?_
        refine pb_mul hx hb d_Md_sumOf_18 ?_
        refine lv_iload_n hx hb d_Md_sumOf_19 rfl (lv_at hl 0 rfl) ?_
        refine pb_add hx hb d_Md_sumOf_20 ?_
        refine md_lf (b := b) (i := i) C hP (by omega) (by omega) (by omega) d_Md_sumOf_21 ?_
        refine lv_ixor hx hb d_Md_sumOf_22 ?_
        refine lv_istore_n (lv' := [(2, .int (x ^^^ (nI (M b i)))), (3, .int (nI i)), (0, .ref (a 0)), (1, .int (nI b))]) hx hb d_Md_sumOf_23 rfl hl (by decide) rfl (fun ls hl => ?_)
        refine lv_iload_n hx hb d_Md_sumOf_24 rfl (lv_at hl 0 rfl) ?_
        refine lv_bipush (v := nI 17) hx hb d_Md_sumOf_25 (by decide +kernel) ?_
        refine lv_ishl hx hb d_Md_sumOf_27 ?_
        refine lv_iload_n hx hb d_Md_sumOf_28 rfl (lv_at hl 0 rfl) ?_
        refine lv_bipush (v := nI 15) hx hb d_Md_sumOf_29 (by decide +kernel) ?_
        refine lv_iushr hx hb d_Md_sumOf_31 rfl ?_
        refine lv_ior hx hb d_Md_sumOf_32 ?_
        refine lv_istore_n (lv' := [(2, .int (((x ^^^ (nI (M b i))) <<< ((nI 17) &&& 31)) ||| (((x ^^^ (nI (M b i))).toUInt32 >>> ((nI 15).toUInt32 &&& Int32.toUInt32 31)).toInt32))), (3, .int (nI i)), (0, .ref (a 0)), (1, .int (nI b))]) hx hb d_Md_sumOf_33 rfl hl (by decide) rfl (fun ls hl => ?_)
        refine lv_iload_n hx hb d_Md_sumOf_34 rfl (lv_at hl 0 rfl) ?_
        refine lv_ldc (v := (-2048144789 : Int32)) hx hb hown (hG _ m_299) d_Md_sumOf_35 ?_
        refine lv_imul hx hb d_Md_sumOf_37 ?_
        refine lv_istore_n (lv' := [(2, .int ((((x ^^^ (nI (M b i))) <<< ((nI 17) &&& 31)) ||| (((x ^^^ (nI (M b i))).toUInt32 >>> ((nI 15).toUInt32 &&& Int32.toUInt32 31)).toInt32)) * ((-2048144789)))), (3, .int (nI i)), (0, .ref (a 0)), (1, .int (nI b))]) hx hb d_Md_sumOf_38 rfl hl (by decide) rfl (fun ls hl => ?_)
        refine lv_iinc (v := nI (i + 1)) (lv' := [(3, .int (nI (i + 1))), (2, .int ((((x ^^^ (nI (M b i))) <<< ((nI 17) &&& 31)) ||| (((x ^^^ (nI (M b i))).toUInt32 >>> ((nI 15).toUInt32 &&& Int32.toUInt32 31)).toInt32)) * ((-2048144789)))), (0, .ref (a 0)), (1, .int (nI b))]) hx hb d_Md_sumOf_39 hl (k := 1) rfl (pb_i1 _) (by decide) rfl (fun ls hl => ?_)
        refine lv_goto (tgt := 4) hx hb d_Md_sumOf_42 (by decide) ?_
        exact ih (i + 1) ((((x ^^^ (nI (M b i))) <<< ((nI 17) &&& 31)) ||| (((x ^^^ (nI (M b i))).toUInt32 >>> ((nI 15).toUInt32 &&& Int32.toUInt32 31)).toInt32)) * ((-2048144789))) _ (by omega) (by omega) (by rw [hx1]; rfl) (lv_sub hl [0, 1, 2, 3] rfl)
  exact loop4 61 0 (nI 1) _ (by omega) (by omega) (show nI 1 = (1 : Int32) by decide +kernel) (lv_sub hl [0, 1, 2, 3] rfl)
set_option maxHeartbeats 4000000 in
set_option maxRecDepth 100000 in
theorem c_Md_isRight (l : Launch) (D : va_G) (a : Nat → Nat) (k : Nat → ClassId) (n : Nat) (op : Nat) (tn : Nat) (mn : Nat) (th : Nat) (fl : Nat) (wr : Nat) (bl : Nat → Nat) (fd : Nat → Nat) (wh : Nat → Nat) (bf : Nat → Nat) (M : Nat → Nat → Nat) (b : Nat) (hb64 : b < 64) (hM : ∀ x j, M x j < 256) : Met l y_Md_isRight (pb_ws y_Md_isRight b_Md_isRight 4 (some .boolean)) (pb_rm 1 0 0) (pb_Pr D k [.ref (a 0), .int (nI b)] (md_W a k n op tn mn th fl wr (pb_flat M) bl fd wh bf)) (vp_Si (fun r : Int32 => (r = nI 1 ∧ pb_right (M b)) ∨ (r = nI 0 ∧ ¬ (pb_right (M b))))) 0 0 (fun _ => False) := by
  refine pb_mkR R_Md rfl (by decide) (Nat.le_of_ble_eq_true rfl) ?_
  intro p e R s m args below meth c Q ls C hP hl kr
  obtain ⟨hx, hb, hml, hown, hG, hkn, hR1, hR2⟩ := id C
  have hl : lv_has ls 4 [(0, .ref (a 0)), (1, .int (nI b))] := hl
  refine lv_aload_n hx hb d_Md_isRight_0 rfl (lv_at hl 0 rfl) ?_
  refine lv_iload_n hx hb d_Md_isRight_1 rfl (lv_at hl 1 rfl) ?_
  refine pb_vR (As := [.int (nI b)]) (rest := []) C hP k_Md_sumOf m_295 (c_Md_sumOf l D a k n op tn mn th fl wr bl fd wh bf M b (by omega)) rfl hl.1 0 2 rfl rfl rfl ⟨by decide, by decide⟩ ⟨Nat.zero_le _, Nat.zero_le _⟩ rfl (Nat.le_of_ble_eq_true rfl) d_Md_isRight_2 (fun r2 h2 => ?_)
  refine lv_istore_n (lv' := [(2, .int r2), (0, .ref (a 0)), (1, .int (nI b))]) hx hb d_Md_isRight_5 rfl hl (by decide) rfl (fun ls hl => ?_)
  refine lv_iconst (v := nI 0) hx hb d_Md_isRight_6 (by decide +kernel) ?_
  refine lv_istore_n (lv' := [(3, .int (nI 0)), (2, .int r2), (0, .ref (a 0)), (1, .int (nI b))]) hx hb d_Md_isRight_7 rfl hl (by decide) rfl (fun ls hl => ?_)
  have loop8 : ∀ (fu : Nat) (i : Nat) (ls : Array Slot), (i ≤ 4) → (4 + 1 ≤ i + fu) → (∀ j, j < i → M b (60 + j) = pb_sb (pb_sum (M b) 60) j) → lv_has ls 4 [(3, .int (nI i)), (2, .int r2), (0, .ref (a 0)), (1, .int (nI b))] → W p l e R s m args below meth c s.heap [] 0 0 Q (F0 m 8 ls []) := by
    intro fu
    induction fu with
    | zero =>
      intro i ls hi hn hs
      exfalso
      omega
    | succ fu ih =>
      intro i ls hi hn hs hl
      refine lv_iload_n hx hb d_Md_isRight_8 rfl (lv_at hl 0 rfl) ?_
      refine lv_iconst (v := nI 4) hx hb d_Md_isRight_9 (by decide +kernel) ?_
      refine pb_ge (tgt := 48) (by omega) (by omega) hx hb d_Md_isRight_10 (by decide) (fun c_1 => ?_) (fun c_1 => ?_)
      · refine lv_iconst (v := nI 1) hx hb d_Md_isRight_48 (by decide +kernel) ?_
        exact kr _ _ _ d_Md_isRight_49 rfl (Or.inl ⟨rfl, fun j hj => hs j (by omega)⟩)
      · refine lv_aload_n hx hb d_Md_isRight_13 rfl (lv_at hl 2 rfl) ?_
        refine md_g_store C hP d_Md_isRight_14 ?_
        refine lv_bipush (v := nI 64) hx hb d_Md_isRight_17 (by decide +kernel) ?_
        refine lv_iload_n hx hb d_Md_isRight_19 rfl (lv_at hl 3 rfl) ?_
        refine pb_mul hx hb d_Md_isRight_20 ?_
        refine lv_bipush (v := nI 60) hx hb d_Md_isRight_21 (by decide +kernel) ?_
        refine pb_add hx hb d_Md_isRight_23 ?_
        refine lv_iload_n hx hb d_Md_isRight_24 rfl (lv_at hl 0 rfl) ?_
        refine pb_add hx hb d_Md_isRight_25 ?_
        refine md_lf (b := b) (i := 60 + i) C hP (by omega) (by omega) (by omega) d_Md_isRight_26 ?_
        refine lv_iload_n hx hb d_Md_isRight_27 rfl (lv_at hl 1 rfl) ?_
        refine lv_bipush (v := nI 8) hx hb d_Md_isRight_28 (by decide +kernel) ?_
        refine lv_iload_n hx hb d_Md_isRight_30 rfl (lv_at hl 0 rfl) ?_
        refine pb_mul hx hb d_Md_isRight_31 ?_
        refine lv_iushr hx hb d_Md_isRight_32 rfl ?_
        refine lv_sipush (v := nI 255) hx hb d_Md_isRight_33 (by decide +kernel) ?_
        refine lv_iand hx hb d_Md_isRight_36 ?_
        refine pb_top (show ((r2.toUInt32 >>> ((nI (8 * i)).toUInt32 &&& Int32.toUInt32 31)).toInt32) &&& (nI 255) = nI (pb_sb (pb_sum (M b) 60) i) from (by rw [h2]; exact pb_sb_ushr _ (by omega))) ?_
        refine pb_eq (tgt := 42) (by have := hM b (60 + i); omega) (by have := pb_sb_lt (pb_sum (M b) 60) i; omega) hx hb d_Md_isRight_37 (by decide) (fun c_2 => ?_) (fun c_2 => ?_)
        · refine lv_iinc (v := nI (i + 1)) (lv' := [(3, .int (nI (i + 1))), (2, .int r2), (0, .ref (a 0)), (1, .int (nI b))]) hx hb d_Md_isRight_42 hl (k := 0) rfl (pb_i1 _) (by decide) rfl (fun ls hl => ?_)
          refine lv_goto (tgt := 8) hx hb d_Md_isRight_45 (by decide) ?_
          exact ih (i + 1) _ (by omega) (by omega) (fun j hj => by rcases Nat.lt_succ_iff_lt_or_eq.mp hj with q | q; exact hs j q; subst q; exact c_2) (lv_sub hl [0, 1, 2, 3] rfl)
        · refine lv_iconst (v := nI 0) hx hb d_Md_isRight_40 (by decide +kernel) ?_
          exact kr _ _ _ d_Md_isRight_41 rfl (Or.inr ⟨rfl, fun q => c_2 (q i (by omega))⟩)
  exact loop8 5 0 _ (by omega) (by omega) (fun j hj => absurd hj (Nat.not_lt_zero j)) (lv_sub hl [0, 1, 2, 3] rfl)
set_option maxHeartbeats 4000000 in
set_option maxRecDepth 100000 in
theorem c_Md_write (l : Launch) (D : va_G) (a : Nat → Nat) (k : Nat → ClassId) (n : Nat) (op : Nat) (tn : Nat) (mn : Nat) (th : Nat) (fl : Nat) (wr : Nat) (bl : Nat → Nat) (fd : Nat → Nat) (wh : Nat → Nat) (bf : Nat → Nat) (M : Nat → Nat → Nat) (b i q v : Nat) (sz0 : Nat) (hb64 : b < 64) (hi : i < 64) (hq : q = 64 * b + i) (hwr : wr < 129) : Met l y_Md_write (pb_ws y_Md_write b_Md_write 3 none) (pb_rm 0 0 0) (pb_P D k [.ref (a 0), .int (nI q), .int (nI v)] (md_W a k n op tn mn th fl wr (pb_flat M) bl fd wh bf) sz0) (pb_QV D (md_W a k n op tn mn th fl wr (pb_flat M) bl fd wh bf) sz0 (fun (u : Unit) => True) (fun (u : Unit) => md_W a k n op tn mn th fl (wr + 1) (pb_flat (pb_put1 M b i v)) bl fd (va_up wh wr q) (va_up bf wr (M b i)))) 0 0 (va_A (md_W a k n op tn mn th fl wr (pb_flat M) bl fd wh bf) sz0) := by
  refine pb_mkV R_Md rfl (by decide) (Nat.le_of_ble_eq_true rfl) ?_
  intro p e R s m args below meth c Q A ls C hRc hA hw hl hini kr
  obtain ⟨H, hH⟩ : ∃ H : Heap, H = s.heap := ⟨_, rfl⟩
  obtain ⟨locs, hL⟩ : ∃ L : List Loc, L = [] := ⟨_, rfl⟩
  have hw : pb_W D A s.heap (md_W a k n op tn mn th fl wr (pb_flat M) bl fd wh bf) H locs := by rw [hH, hL]; exact hw
  rw [show W p l e R s m args below meth c s.heap [] 0 0 Q (F0 m 0 ls []) = W p l e R s m args below meth c H locs 0 0 Q (F0 m 0 ls []) by rw [hH, hL]]
  clear hH hL
  obtain ⟨hx, hb, hml, hown, hG, hkn, hR1, hR2⟩ := id C
  have hl : lv_has ls 3 [(0, .ref (a 0)), (1, .int (nI q)), (2, .int (nI v))] := hl
  refine lv_aload_n hx hb d_Md_write_0 rfl (lv_at hl 0 rfl) ?_
  refine md_g_where C hw.1 d_Md_write_1 ?_
  refine lv_aload_n hx hb d_Md_write_4 rfl (lv_at hl 0 rfl) ?_
  refine md_g_written C hw.1 d_Md_write_5 ?_
  refine lv_iload_n hx hb d_Md_write_8 rfl (lv_at hl 1 rfl) ?_
  refine md_s_where C hw (by omega) d_Md_write_9 (fun H locs hw => ?_)
  refine lv_aload_n hx hb d_Md_write_10 rfl (lv_at hl 0 rfl) ?_
  refine md_g_before C hw.1 d_Md_write_11 ?_
  refine lv_aload_n hx hb d_Md_write_14 rfl (lv_at hl 0 rfl) ?_
  refine md_g_written C hw.1 d_Md_write_15 ?_
  refine lv_aload_n hx hb d_Md_write_18 rfl (lv_at hl 0 rfl) ?_
  refine md_g_store C hw.1 d_Md_write_19 ?_
  refine lv_iload_n hx hb d_Md_write_22 rfl (lv_at hl 1 rfl) ?_
  refine md_lf (b := b) (i := i) C hw.1 (by omega) (by omega) (by omega) d_Md_write_23 ?_
  refine md_s_before C hw (by omega) d_Md_write_24 (fun H locs hw => ?_)
  refine lv_aload_n hx hb d_Md_write_25 rfl (lv_at hl 0 rfl) ?_
  refine md_g_store C hw.1 d_Md_write_26 ?_
  refine lv_iload_n hx hb d_Md_write_29 rfl (lv_at hl 1 rfl) ?_
  refine lv_iload_n hx hb d_Md_write_30 rfl (lv_at hl 2 rfl) ?_
  refine md_sf (b := b) (i := i) C hw (by omega) (by omega) (by omega) d_Md_write_31 (fun H locs hw => ?_)
  refine lv_aload_n hx hb d_Md_write_32 rfl (lv_at hl 0 rfl) ?_
  refine lv_dup hx hb d_Md_write_33 rfl ?_
  refine md_g_written C hw.1 d_Md_write_34 ?_
  refine lv_iconst (v := nI 1) hx hb d_Md_write_37 (by decide +kernel) ?_
  refine pb_add hx hb d_Md_write_38 ?_
  refine md_p_written C hw d_Md_write_39 (fun H locs hw => ?_)
  exact kr _ _ _ _ () d_Md_write_42 hw trivial
/-- write, of a page's next place -/
theorem c_Md_wp (l : Launch) (D : va_G) (a : Nat → Nat) (k : Nat → ClassId) (n op tn mn th fl wr : Nat) (bl fd wh bf : Nat → Nat) (M : Nat → Nat → Nat) (b c q v : Nat) (pg : Nat → Nat) (sz0 : Nat) (hb64 : b < 64) (hc : c < 64) (hq : q = 64 * b + c) (hv : v = pg c) (hwr : wr + c < 129) :
    Met l y_Md_write (pb_ws y_Md_write b_Md_write 3 none) (pb_rm 0 0 0) (pb_P D k [.ref (a 0), .int (nI q), .int (nI v)] (md_P a k n op tn mn th fl wr M bl fd wh bf b c pg) sz0) (pb_QV D (md_P a k n op tn mn th fl wr M bl fd wh bf b c pg) sz0 (fun (u : Unit) => True) (fun (u : Unit) => md_P a k n op tn mn th fl wr M bl fd wh bf b (c + 1) pg)) 0 0 (va_A (md_P a k n op tn mn th fl wr M bl fd wh bf b c pg) sz0) := by
  have h := c_Md_write l D a k n op tn mn th fl (wr + c) bl fd (pb_fill wh wr c (fun j => 64 * b + j)) (pb_fill bf wr c (fun j => M b j)) (pb_rowf M b c pg) b c q v sz0 hb64 hc hq hwr
  subst hq
  subst hv
  rw [pb_rowf_at (Nat.le_refl c)] at h
  unfold pb_put1 at h
  have e : md_P a k n op tn mn th fl wr M bl fd wh bf b (c + 1) pg = md_W a k n op tn mn th fl (wr + c + 1) (pb_flat (va_up (pb_rowf M b c pg) b (va_up (pb_rowf M b c pg b) c (pg c)))) bl fd (va_up (pb_fill wh wr c (fun j => 64 * b + j)) (wr + c) (64 * b + c)) (va_up (pb_fill bf wr c (fun j => M b j)) (wr + c) (M b c)) := by
    unfold md_P
    rw [← pb_fill_s wh wr c, ← pb_fill_s bf wr c, ← pb_rowf_s M b c pg]
    rfl
  rw [e]
  exact h
set_option maxHeartbeats 4000000 in
set_option maxRecDepth 100000 in
theorem c_Md_writeSum (l : Launch) (D : va_G) (a : Nat → Nat) (k : Nat → ClassId) (n : Nat) (op : Nat) (tn : Nat) (mn : Nat) (th : Nat) (fl : Nat) (wr : Nat) (bl : Nat → Nat) (fd : Nat → Nat) (wh : Nat → Nat) (bf : Nat → Nat) (M : Nat → Nat → Nat) (b : Nat) (pg : Nat → Nat) (sz0 : Nat) (hb64 : b < 64) (hpgs : ∀ j, j < 4 → pg (60 + j) = pb_sb (pb_sum pg 60) j) (hwr : wr + 64 ≤ 129) : Met l y_Md_writeSum (pb_ws y_Md_writeSum b_Md_writeSum 4 none) (pb_rm 1 0 0) (pb_P D k [.ref (a 0), .int (nI b)] (md_W a k n op tn mn th fl (wr + 60) (pb_flat (pb_rowf M b 60 pg)) bl fd (pb_fill wh wr 60 (fun j => 64 * b + j)) (pb_fill bf wr 60 (fun j => M b j))) sz0) (pb_QV D (md_W a k n op tn mn th fl (wr + 60) (pb_flat (pb_rowf M b 60 pg)) bl fd (pb_fill wh wr 60 (fun j => 64 * b + j)) (pb_fill bf wr 60 (fun j => M b j))) sz0 (fun (u : Unit) => True) (fun (u : Unit) => md_W a k n op tn mn th fl (wr + 64) (pb_flat (pb_rowf M b 64 pg)) bl fd (pb_fill wh wr 64 (fun j => 64 * b + j)) (pb_fill bf wr 64 (fun j => M b j)))) 0 0 (va_A (md_W a k n op tn mn th fl (wr + 60) (pb_flat (pb_rowf M b 60 pg)) bl fd (pb_fill wh wr 60 (fun j => 64 * b + j)) (pb_fill bf wr 60 (fun j => M b j))) sz0) := by
  refine pb_mkV R_Md rfl (by decide) (Nat.le_of_ble_eq_true rfl) ?_
  intro p e R s m args below meth c Q A ls C hRc hA hw hl hini kr
  obtain ⟨H, hH⟩ : ∃ H : Heap, H = s.heap := ⟨_, rfl⟩
  obtain ⟨locs, hL⟩ : ∃ L : List Loc, L = [] := ⟨_, rfl⟩
  have hw : pb_W D A s.heap (md_W a k n op tn mn th fl (wr + 60) (pb_flat (pb_rowf M b 60 pg)) bl fd (pb_fill wh wr 60 (fun j => 64 * b + j)) (pb_fill bf wr 60 (fun j => M b j))) H locs := by rw [hH, hL]; exact hw
  rw [show W p l e R s m args below meth c s.heap [] 0 0 Q (F0 m 0 ls []) = W p l e R s m args below meth c H locs 0 0 Q (F0 m 0 ls []) by rw [hH, hL]]
  clear hH hL
  obtain ⟨hx, hb, hml, hown, hG, hkn, hR1, hR2⟩ := id C
  have hl : lv_has ls 4 [(0, .ref (a 0)), (1, .int (nI b))] := hl
  refine lv_aload_n hx hb d_Md_writeSum_0 rfl (lv_at hl 0 rfl) ?_
  refine lv_iload_n hx hb d_Md_writeSum_1 rfl (lv_at hl 1 rfl) ?_
  refine pb_vR (As := [.int (nI b)]) (rest := []) C hw.1 k_Md_sumOf m_295 (c_Md_sumOf l D a k n op tn mn th fl (wr + 60) bl fd (pb_fill wh wr 60 (fun j => 64 * b + j)) (pb_fill bf wr 60 (fun j => M b j)) (pb_rowf M b 60 pg) b (by omega)) rfl hl.1 0 2 rfl rfl rfl ⟨by decide, by decide⟩ ⟨Nat.zero_le _, Nat.zero_le _⟩ rfl (Nat.le_of_ble_eq_true rfl) d_Md_writeSum_2 (fun r2 h2 => ?_)
  refine lv_istore_n (lv' := [(2, .int r2), (0, .ref (a 0)), (1, .int (nI b))]) hx hb d_Md_writeSum_5 rfl hl (by decide) rfl (fun ls hl => ?_)
  refine lv_iconst (v := nI 0) hx hb d_Md_writeSum_6 (by decide +kernel) ?_
  refine lv_istore_n (lv' := [(3, .int (nI 0)), (2, .int r2), (0, .ref (a 0)), (1, .int (nI b))]) hx hb d_Md_writeSum_7 rfl hl (by decide) rfl (fun ls hl => ?_)
  have loop8 : ∀ (fu : Nat) (i : Nat) (H : Heap) (locs : List Loc) (ls : Array Slot), (i ≤ 4) → (4 + 1 ≤ i + fu) → pb_W D A s.heap (md_W a k n op tn mn th fl (wr + (60 + i)) (pb_flat (pb_rowf M b (60 + i) pg)) bl fd (pb_fill wh wr (60 + i) (fun j => 64 * b + j)) (pb_fill bf wr (60 + i) (fun j => M b j))) H locs → lv_has ls 4 [(3, .int (nI i)), (2, .int r2), (0, .ref (a 0)), (1, .int (nI b))] → W p l e R s m args below meth c H locs 0 0 Q (F0 m 8 ls []) := by
    intro fu
    induction fu with
    | zero =>
      intro i H locs ls hi hn
      exfalso
      omega
    | succ fu ih =>
      intro i H locs ls hi hn hw hl
      refine lv_iload_n hx hb d_Md_writeSum_8 rfl (lv_at hl 0 rfl) ?_
      refine lv_iconst (v := nI 4) hx hb d_Md_writeSum_9 (by decide +kernel) ?_
      refine pb_ge (tgt := 42) (by omega) (by omega) hx hb d_Md_writeSum_10 (by decide) (fun c_1 => ?_) (fun c_1 => ?_)
      · obtain rfl : i = 4 := by omega
        exact kr _ _ _ _ () d_Md_writeSum_42 hw trivial
      · refine lv_aload_n hx hb d_Md_writeSum_13 rfl (lv_at hl 2 rfl) ?_
        refine lv_bipush (v := nI 64) hx hb d_Md_writeSum_14 (by decide +kernel) ?_
        refine lv_iload_n hx hb d_Md_writeSum_16 rfl (lv_at hl 3 rfl) ?_
        refine pb_mul hx hb d_Md_writeSum_17 ?_
        refine lv_bipush (v := nI 60) hx hb d_Md_writeSum_18 (by decide +kernel) ?_
        refine pb_add hx hb d_Md_writeSum_20 ?_
        refine lv_iload_n hx hb d_Md_writeSum_21 rfl (lv_at hl 0 rfl) ?_
        refine pb_add hx hb d_Md_writeSum_22 ?_
        refine lv_iload_n hx hb d_Md_writeSum_23 rfl (lv_at hl 1 rfl) ?_
        refine lv_bipush (v := nI 8) hx hb d_Md_writeSum_24 (by decide +kernel) ?_
        refine lv_iload_n hx hb d_Md_writeSum_26 rfl (lv_at hl 0 rfl) ?_
        refine pb_mul hx hb d_Md_writeSum_27 ?_
        refine lv_iushr hx hb d_Md_writeSum_28 rfl ?_
        refine lv_sipush (v := nI 255) hx hb d_Md_writeSum_29 (by decide +kernel) ?_
        refine lv_iand hx hb d_Md_writeSum_32 ?_
        refine pb_top (show ((r2.toUInt32 >>> ((nI (8 * i)).toUInt32 &&& Int32.toUInt32 31)).toInt32) &&& (nI 255) = nI (pb_sb (pb_sum pg 60) i) from (by rw [h2, pb_sum_congr 60 (fun z hz => pb_rowf_in hz)]; exact pb_sb_ushr _ (by omega))) ?_
        refine pb_vV (As := [.int (nI (((64 * b) + 60) + i)), .int (nI (pb_sb (pb_sum pg 60) i))]) (rest := []) C hA hw k_Md_write m_287 (c_Md_wp l D a k n op tn mn th fl wr bl fd wh bf M b (60 + i) (((64 * b) + 60) + i) (pb_sb (pb_sum pg 60) i) pg _ hb64 (by omega) (by omega) (hpgs i (by omega)).symm (by omega)) rfl hl.1 0 2 rfl rfl rfl ⟨by decide, by decide⟩ ⟨Nat.zero_le _, Nat.zero_le _⟩ rfl (Nat.le_of_ble_eq_true rfl) d_Md_writeSum_33 (fun u33 H locs h33 hw => ?_)
        refine lv_iinc (v := nI (i + 1)) (lv' := [(3, .int (nI (i + 1))), (2, .int r2), (0, .ref (a 0)), (1, .int (nI b))]) hx hb d_Md_writeSum_36 hl (k := 0) rfl (pb_i1 _) (by decide) rfl (fun ls hl => ?_)
        refine lv_goto (tgt := 8) hx hb d_Md_writeSum_39 (by decide) ?_
        exact ih (i + 1) _ _ _ (by omega) (by omega) hw (lv_sub hl [0, 1, 2, 3] rfl)
  exact loop8 5 0 _ _ _ (by omega) (by omega) hw (lv_sub hl [0, 1, 2, 3] rfl)
set_option maxHeartbeats 4000000 in
set_option maxRecDepth 100000 in
theorem c_Md_writeRoot (l : Launch) (D : va_G) (a : Nat → Nat) (k : Nat → ClassId) (n : Nat) (op : Nat) (tn : Nat) (mn : Nat) (th : Nat) (fl : Nat) (wr : Nat) (bl : Nat → Nat) (fd : Nat → Nat) (wh : Nat → Nat) (bf : Nat → Nat) (M : Nat → Nat → Nat) (b : Nat) (x : Int32) (bu : Nat) (en pg : Nat → Nat) (sz0 : Nat) (hb64 : b < 64) (hmn : mn ≤ 40) (hbu : ∀ q, q < 64 → (nI q = x ↔ q = bu)) (hxb : (x < 0 ∧ mn ≤ bu) ∨ (x = nI bu ∧ bu < mn)) (hbe : ∀ q, q < mn → bl q = en q) (hpg0 : ∀ j, j < 60 → pg j = pb_root mn en bu j) (hpgs : ∀ j, j < 4 → pg (60 + j) = pb_sb (pb_sum pg 60) j) (hwr : wr + 64 ≤ 129) : Met l y_Md_writeRoot (pb_ws y_Md_writeRoot b_Md_writeRoot 6 none) (pb_rm 2 0 0) (pb_P D k [.ref (a 0), .int (nI b), .int x] (md_W a k n op tn mn th fl wr (pb_flat M) bl fd wh bf) sz0) (pb_QV D (md_W a k n op tn mn th fl wr (pb_flat M) bl fd wh bf) sz0 (fun (u : Unit) => True) (fun (u : Unit) => md_W a k n op tn mn th fl (wr + 64) (pb_flat (pb_rowf M b 64 pg)) bl fd (pb_fill wh wr 64 (fun j => 64 * b + j)) (pb_fill bf wr 64 (fun j => M b j)))) 0 0 (va_A (md_W a k n op tn mn th fl wr (pb_flat M) bl fd wh bf) sz0) := by
  refine pb_mkV R_Md rfl (by decide) (Nat.le_of_ble_eq_true rfl) ?_
  intro p e R s m args below meth c Q A ls C hRc hA hw hl hini kr
  obtain ⟨H, hH⟩ : ∃ H : Heap, H = s.heap := ⟨_, rfl⟩
  obtain ⟨locs, hL⟩ : ∃ L : List Loc, L = [] := ⟨_, rfl⟩
  have hw : pb_W D A s.heap (md_W a k n op tn mn th fl wr (pb_flat M) bl fd wh bf) H locs := by rw [hH, hL]; exact hw
  rw [show W p l e R s m args below meth c s.heap [] 0 0 Q (F0 m 0 ls []) = W p l e R s m args below meth c H locs 0 0 Q (F0 m 0 ls []) by rw [hH, hL]]
  clear hH hL
  obtain ⟨hx, hb, hml, hown, hG, hkn, hR1, hR2⟩ := id C
  have hl : lv_has ls 6 [(0, .ref (a 0)), (1, .int (nI b)), (2, .int x)] := hl
  refine lv_iload_n hx hb d_Md_writeRoot_0 rfl (lv_at hl 2 rfl) ?_
  refine lv_if_ge (tgt := 11) hx hb d_Md_writeRoot_1 (by decide) (fun c_1 => ?_) (fun c_1 => ?_)
  · refine lv_aload_n hx hb d_Md_writeRoot_11 rfl (lv_at hl 0 rfl) ?_
    refine md_g_entries C hw.1 d_Md_writeRoot_12 ?_
    refine lv_iconst (v := nI 1) hx hb d_Md_writeRoot_15 (by decide +kernel) ?_
    refine pb_sub (by rcases hxb with ⟨g, g2⟩ | ⟨g, g2⟩; exact absurd g (Int32.not_lt.mpr c_1); omega) hx hb d_Md_writeRoot_16 ?_
    have hN : mn - 1 = pb_cnt mn bu := by
      rcases hxb with ⟨g, g2⟩ | ⟨g, g2⟩
      · exact absurd g (Int32.not_lt.mpr c_1)
      · unfold pb_cnt; rw [if_pos g2]
    refine pb_top (show nI (mn - 1) = nI (pb_cnt mn bu) from by rw [← hN]) ?_
    have hNle : pb_cnt mn bu ≤ mn := by unfold pb_cnt; split <;> omega
    rw [← md_P0 (b := b) (pg := pg)] at hw
    refine lv_istore_n (lv' := [(3, .int (nI (pb_cnt mn bu))), (0, .ref (a 0)), (1, .int (nI b)), (2, .int x)]) hx hb d_Md_writeRoot_17 rfl hl (by decide) rfl (fun ls hl => ?_)
    refine lv_aload_n hx hb d_Md_writeRoot_18 rfl (lv_at hl 1 rfl) ?_
    refine lv_bipush (v := nI 64) hx hb d_Md_writeRoot_19 (by decide +kernel) ?_
    refine lv_iload_n hx hb d_Md_writeRoot_21 rfl (lv_at hl 2 rfl) ?_
    refine pb_mul hx hb d_Md_writeRoot_22 ?_
    refine lv_iload_n hx hb d_Md_writeRoot_23 rfl (lv_at hl 0 rfl) ?_
    refine pb_vV (As := [.int (nI (64 * b)), .int (nI (pb_cnt mn bu))]) (rest := []) C hA hw k_Md_write m_287 (c_Md_wp l D a k n op tn mn th fl wr bl fd wh bf M b 0 (64 * b) (pb_cnt mn bu) pg _ hb64 (by omega) (by omega) (by rw [hpg0 0 (by omega)]; rfl) (by omega)) rfl hl.1 0 2 rfl rfl rfl ⟨by decide, by decide⟩ ⟨Nat.zero_le _, Nat.zero_le _⟩ rfl (Nat.le_of_ble_eq_true rfl) d_Md_writeRoot_24 (fun u24 H locs h24 hw => ?_)
    refine lv_iconst (v := nI 0) hx hb d_Md_writeRoot_27 (by decide +kernel) ?_
    refine lv_istore (lv' := [(4, .int (nI 0)), (3, .int (nI (pb_cnt mn bu))), (0, .ref (a 0)), (1, .int (nI b)), (2, .int x)]) hx hb d_Md_writeRoot_28 hl (by decide) rfl (fun ls hl => ?_)
    refine lv_iconst (v := nI 1) hx hb d_Md_writeRoot_30 (by decide +kernel) ?_
    refine lv_istore (lv' := [(5, .int (nI 1)), (4, .int (nI 0)), (3, .int (nI (pb_cnt mn bu))), (0, .ref (a 0)), (1, .int (nI b)), (2, .int x)]) hx hb d_Md_writeRoot_31 hl (by decide) rfl (fun ls hl => ?_)
    have loop33 : ∀ (fu : Nat) (kk q : Nat) (H : Heap) (locs : List Loc) (ls : Array Slot), (1 ≤ kk) → (kk ≤ 60) → (60 + 1 ≤ kk + fu) → (q ≤ kk) → (q = if kk - 1 ≤ bu then kk - 1 else kk) → pb_W D A s.heap (md_W a k n op tn mn th fl (wr + kk) (pb_flat (pb_rowf M b kk pg)) bl fd (pb_fill wh wr kk (fun j => 64 * b + j)) (pb_fill bf wr kk (fun j => M b j))) H locs → lv_has ls 6 [(5, .int (nI kk)), (4, .int (nI q)), (3, .int (nI (pb_cnt mn bu))), (0, .ref (a 0)), (1, .int (nI b)), (2, .int x)] → W p l e R s m args below meth c H locs 0 0 Q (F0 m 33 ls []) := by
      intro fu
      induction fu with
      | zero =>
        intro kk q H locs ls h1 h2 hn hq1 hat
        exfalso
        omega
      | succ fu ih =>
        intro kk q H locs ls h1 h2 hn hq1 hat hw hl
        refine lv_iload hx hb d_Md_writeRoot_33 (lv_at hl 0 rfl) ?_
        refine lv_bipush (v := nI 60) hx hb d_Md_writeRoot_35 (by decide +kernel) ?_
        refine pb_ge (tgt := 86) (by omega) (by omega) hx hb d_Md_writeRoot_37 (by decide) (fun c_2 => ?_) (fun c_2 => ?_)
        · obtain rfl : kk = 60 := by omega
          refine lv_aload_n hx hb d_Md_writeRoot_86 rfl (lv_at hl 3 rfl) ?_
          refine lv_iload_n hx hb d_Md_writeRoot_87 rfl (lv_at hl 4 rfl) ?_
          refine pb_vV (As := [.int (nI b)]) (rest := []) C hA hw k_Md_writeSum m_291 (c_Md_writeSum l D a k n op tn mn th fl wr bl fd wh bf M b pg _ hb64 hpgs hwr) rfl hl.1 0 2 rfl rfl rfl ⟨by decide, by decide⟩ ⟨Nat.zero_le _, Nat.zero_le _⟩ rfl (Nat.le_of_ble_eq_true rfl) d_Md_writeRoot_88 (fun u88 H locs h88 hw => ?_)
          exact kr _ _ _ _ () d_Md_writeRoot_91 hw trivial
        · refine lv_iload hx hb d_Md_writeRoot_40 (lv_at hl 1 rfl) ?_
          refine lv_iload_n hx hb d_Md_writeRoot_42 rfl (lv_at hl 5 rfl) ?_
          refine lv_icmp_ne (tgt := 49) hx hb d_Md_writeRoot_43 (by decide) (fun c_3 => ?_) (fun c_3 => ?_)
          · have hat2 : q = if kk - 1 < bu then kk - 1 else kk := by
              have g : q ≠ bu := fun z => c_3 ((hbu q (by omega)).mpr z)
              split at hat <;> split <;> omega
            have hat3 := pb_at_lt (mn := mn) (bu := bu) h1
            refine lv_aload_n hx hb d_Md_writeRoot_49 rfl (lv_at hl 3 rfl) ?_
            refine lv_bipush (v := nI 64) hx hb d_Md_writeRoot_50 (by decide +kernel) ?_
            refine lv_iload_n hx hb d_Md_writeRoot_52 rfl (lv_at hl 4 rfl) ?_
            refine pb_mul hx hb d_Md_writeRoot_53 ?_
            refine lv_iload hx hb d_Md_writeRoot_54 (lv_at hl 0 rfl) ?_
            refine pb_add hx hb d_Md_writeRoot_56 ?_
            refine lv_iload hx hb d_Md_writeRoot_57 (lv_at hl 0 rfl) ?_
            refine lv_iload_n hx hb d_Md_writeRoot_59 rfl (lv_at hl 2 rfl) ?_
            refine pb_gt (tgt := 73) (by omega) (by omega) hx hb d_Md_writeRoot_60 (by decide) (fun c_4 => ?_) (fun c_4 => ?_)
            · refine lv_iconst (v := nI 0) hx hb d_Md_writeRoot_73 (by decide +kernel) ?_
              have hpk : pg kk = if kk ≤ pb_cnt mn bu then en (if kk - 1 < bu then kk - 1 else kk) else 0 := by
                rw [hpg0 kk (by omega)]
                unfold pb_root
                rw [if_neg (by omega)]
              refine pb_top (show nI 0 = nI (pg kk) from by rw [hpk, if_neg (by omega)]) ?_
              refine pb_vV (As := [.int (nI ((64 * b) + kk)), .int (nI (pg kk))]) (rest := []) C hA hw k_Md_write m_287 (c_Md_wp l D a k n op tn mn th fl wr bl fd wh bf M b kk ((64 * b) + kk) (pg kk) pg _ hb64 (by omega) (by omega) rfl (by omega)) rfl hl.1 0 2 rfl rfl rfl ⟨by decide, by decide⟩ ⟨Nat.zero_le _, Nat.zero_le _⟩ rfl (Nat.le_of_ble_eq_true rfl) d_Md_writeRoot_74 (fun u74 H locs h74 hw => ?_)
              refine lv_iinc (v := nI (q + 1)) (lv' := [(4, .int (nI (q + 1))), (5, .int (nI kk)), (3, .int (nI (pb_cnt mn bu))), (0, .ref (a 0)), (1, .int (nI b)), (2, .int x)]) hx hb d_Md_writeRoot_77 hl (k := 1) rfl (pb_i1 _) (by decide) rfl (fun ls hl => ?_)
              refine lv_iinc (v := nI (kk + 1)) (lv' := [(5, .int (nI (kk + 1))), (4, .int (nI (q + 1))), (3, .int (nI (pb_cnt mn bu))), (0, .ref (a 0)), (1, .int (nI b)), (2, .int x)]) hx hb d_Md_writeRoot_80 hl (k := 1) rfl (pb_i1 _) (by decide) rfl (fun ls hl => ?_)
              refine lv_goto (tgt := 33) hx hb d_Md_writeRoot_83 (by decide) ?_
              exact ih (kk + 1) (q + 1) _ _ _ (by omega) (by omega) (by omega) (by split at hat2 <;> omega) (by split at hat2 <;> split <;> omega) hw (lv_sub hl [0, 1, 2, 3, 4, 5] rfl)
            · refine lv_aload_n hx hb d_Md_writeRoot_63 rfl (lv_at hl 3 rfl) ?_
              refine md_g_block C hw.1 d_Md_writeRoot_64 ?_
              refine lv_iload hx hb d_Md_writeRoot_67 (lv_at hl 1 rfl) ?_
              refine md_l_block C hw.1 (by have := hat3 c_4; omega) d_Md_writeRoot_69 ?_
              refine lv_goto (tgt := 74) hx hb d_Md_writeRoot_70 (by decide) ?_
              have hpk : pg kk = if kk ≤ pb_cnt mn bu then en (if kk - 1 < bu then kk - 1 else kk) else 0 := by
                rw [hpg0 kk (by omega)]
                unfold pb_root
                rw [if_neg (by omega)]
              refine pb_top (show nI (bl q) = nI (pg kk) from by rw [hpk, if_pos (by omega), ← hat2, hbe q (by have := hat3 c_4; omega)]) ?_
              refine pb_vV (As := [.int (nI ((64 * b) + kk)), .int (nI (pg kk))]) (rest := []) C hA hw k_Md_write m_287 (c_Md_wp l D a k n op tn mn th fl wr bl fd wh bf M b kk ((64 * b) + kk) (pg kk) pg _ hb64 (by omega) (by omega) rfl (by omega)) rfl hl.1 0 2 rfl rfl rfl ⟨by decide, by decide⟩ ⟨Nat.zero_le _, Nat.zero_le _⟩ rfl (Nat.le_of_ble_eq_true rfl) d_Md_writeRoot_74 (fun u74 H locs h74 hw => ?_)
              refine lv_iinc (v := nI (q + 1)) (lv' := [(4, .int (nI (q + 1))), (5, .int (nI kk)), (3, .int (nI (pb_cnt mn bu))), (0, .ref (a 0)), (1, .int (nI b)), (2, .int x)]) hx hb d_Md_writeRoot_77 hl (k := 1) rfl (pb_i1 _) (by decide) rfl (fun ls hl => ?_)
              refine lv_iinc (v := nI (kk + 1)) (lv' := [(5, .int (nI (kk + 1))), (4, .int (nI (q + 1))), (3, .int (nI (pb_cnt mn bu))), (0, .ref (a 0)), (1, .int (nI b)), (2, .int x)]) hx hb d_Md_writeRoot_80 hl (k := 1) rfl (pb_i1 _) (by decide) rfl (fun ls hl => ?_)
              refine lv_goto (tgt := 33) hx hb d_Md_writeRoot_83 (by decide) ?_
              exact ih (kk + 1) (q + 1) _ _ _ (by omega) (by omega) (by omega) (by split at hat2 <;> omega) (by split at hat2 <;> split <;> omega) hw (lv_sub hl [0, 1, 2, 3, 4, 5] rfl)
          · refine lv_iinc (v := nI (q + 1)) (lv' := [(4, .int (nI (q + 1))), (5, .int (nI kk)), (3, .int (nI (pb_cnt mn bu))), (0, .ref (a 0)), (1, .int (nI b)), (2, .int x)]) hx hb d_Md_writeRoot_46 hl (k := 1) rfl (pb_i1 _) (by decide) rfl (fun ls hl => ?_)
            have hat2 : q + 1 = if kk - 1 < bu then kk - 1 else kk := by
              have g := (hbu q (by omega)).mp c_3
              split at hat <;> split <;> omega
            have hat3 := pb_at_lt (mn := mn) (bu := bu) h1
            refine lv_aload_n hx hb d_Md_writeRoot_49 rfl (lv_at hl 3 rfl) ?_
            refine lv_bipush (v := nI 64) hx hb d_Md_writeRoot_50 (by decide +kernel) ?_
            refine lv_iload_n hx hb d_Md_writeRoot_52 rfl (lv_at hl 4 rfl) ?_
            refine pb_mul hx hb d_Md_writeRoot_53 ?_
            refine lv_iload hx hb d_Md_writeRoot_54 (lv_at hl 1 rfl) ?_
            refine pb_add hx hb d_Md_writeRoot_56 ?_
            refine lv_iload hx hb d_Md_writeRoot_57 (lv_at hl 1 rfl) ?_
            refine lv_iload_n hx hb d_Md_writeRoot_59 rfl (lv_at hl 2 rfl) ?_
            refine pb_gt (tgt := 73) (by omega) (by omega) hx hb d_Md_writeRoot_60 (by decide) (fun c_4 => ?_) (fun c_4 => ?_)
            · refine lv_iconst (v := nI 0) hx hb d_Md_writeRoot_73 (by decide +kernel) ?_
              have hpk : pg kk = if kk ≤ pb_cnt mn bu then en (if kk - 1 < bu then kk - 1 else kk) else 0 := by
                rw [hpg0 kk (by omega)]
                unfold pb_root
                rw [if_neg (by omega)]
              refine pb_top (show nI 0 = nI (pg kk) from by rw [hpk, if_neg (by omega)]) ?_
              refine pb_vV (As := [.int (nI ((64 * b) + kk)), .int (nI (pg kk))]) (rest := []) C hA hw k_Md_write m_287 (c_Md_wp l D a k n op tn mn th fl wr bl fd wh bf M b kk ((64 * b) + kk) (pg kk) pg _ hb64 (by omega) (by omega) rfl (by omega)) rfl hl.1 0 2 rfl rfl rfl ⟨by decide, by decide⟩ ⟨Nat.zero_le _, Nat.zero_le _⟩ rfl (Nat.le_of_ble_eq_true rfl) d_Md_writeRoot_74 (fun u74 H locs h74 hw => ?_)
              refine lv_iinc (v := nI (q + 1 + 1)) (lv' := [(4, .int (nI (q + 1 + 1))), (5, .int (nI kk)), (3, .int (nI (pb_cnt mn bu))), (0, .ref (a 0)), (1, .int (nI b)), (2, .int x)]) hx hb d_Md_writeRoot_77 hl (k := 0) rfl (pb_i1 _) (by decide) rfl (fun ls hl => ?_)
              refine lv_iinc (v := nI (kk + 1)) (lv' := [(5, .int (nI (kk + 1))), (4, .int (nI (q + 1 + 1))), (3, .int (nI (pb_cnt mn bu))), (0, .ref (a 0)), (1, .int (nI b)), (2, .int x)]) hx hb d_Md_writeRoot_80 hl (k := 1) rfl (pb_i1 _) (by decide) rfl (fun ls hl => ?_)
              refine lv_goto (tgt := 33) hx hb d_Md_writeRoot_83 (by decide) ?_
              exact ih (kk + 1) (q + 1 + 1) _ _ _ (by omega) (by omega) (by omega) (by split at hat2 <;> omega) (by split at hat2 <;> split <;> omega) hw (lv_sub hl [0, 1, 2, 3, 4, 5] rfl)
            · refine lv_aload_n hx hb d_Md_writeRoot_63 rfl (lv_at hl 3 rfl) ?_
              refine md_g_block C hw.1 d_Md_writeRoot_64 ?_
              refine lv_iload hx hb d_Md_writeRoot_67 (lv_at hl 0 rfl) ?_
              refine md_l_block C hw.1 (by have := hat3 c_4; omega) d_Md_writeRoot_69 ?_
              refine lv_goto (tgt := 74) hx hb d_Md_writeRoot_70 (by decide) ?_
              have hpk : pg kk = if kk ≤ pb_cnt mn bu then en (if kk - 1 < bu then kk - 1 else kk) else 0 := by
                rw [hpg0 kk (by omega)]
                unfold pb_root
                rw [if_neg (by omega)]
              refine pb_top (show nI (bl (q + 1)) = nI (pg kk) from by rw [hpk, if_pos (by omega), ← hat2, hbe (q + 1) (by have := hat3 c_4; omega)]) ?_
              refine pb_vV (As := [.int (nI ((64 * b) + kk)), .int (nI (pg kk))]) (rest := []) C hA hw k_Md_write m_287 (c_Md_wp l D a k n op tn mn th fl wr bl fd wh bf M b kk ((64 * b) + kk) (pg kk) pg _ hb64 (by omega) (by omega) rfl (by omega)) rfl hl.1 0 2 rfl rfl rfl ⟨by decide, by decide⟩ ⟨Nat.zero_le _, Nat.zero_le _⟩ rfl (Nat.le_of_ble_eq_true rfl) d_Md_writeRoot_74 (fun u74 H locs h74 hw => ?_)
              refine lv_iinc (v := nI (q + 1 + 1)) (lv' := [(4, .int (nI (q + 1 + 1))), (5, .int (nI kk)), (3, .int (nI (pb_cnt mn bu))), (0, .ref (a 0)), (1, .int (nI b)), (2, .int x)]) hx hb d_Md_writeRoot_77 hl (k := 0) rfl (pb_i1 _) (by decide) rfl (fun ls hl => ?_)
              refine lv_iinc (v := nI (kk + 1)) (lv' := [(5, .int (nI (kk + 1))), (4, .int (nI (q + 1 + 1))), (3, .int (nI (pb_cnt mn bu))), (0, .ref (a 0)), (1, .int (nI b)), (2, .int x)]) hx hb d_Md_writeRoot_80 hl (k := 1) rfl (pb_i1 _) (by decide) rfl (fun ls hl => ?_)
              refine lv_goto (tgt := 33) hx hb d_Md_writeRoot_83 (by decide) ?_
              exact ih (kk + 1) (q + 1 + 1) _ _ _ (by omega) (by omega) (by omega) (by split at hat2 <;> omega) (by split at hat2 <;> split <;> omega) hw (lv_sub hl [0, 1, 2, 3, 4, 5] rfl)
    exact loop33 61 1 0 _ _ _ (by omega) (by omega) (by omega) (by omega) (by rw [if_pos (by omega)]) hw (lv_sub hl [0, 1, 2, 3, 4, 5] rfl)
  · refine lv_aload_n hx hb d_Md_writeRoot_4 rfl (lv_at hl 0 rfl) ?_
    refine md_g_entries C hw.1 d_Md_writeRoot_5 ?_
    refine lv_goto (tgt := 17) hx hb d_Md_writeRoot_8 (by decide) ?_
    have hN : mn = pb_cnt mn bu := by
      rcases hxb with ⟨g, g2⟩ | ⟨g, g2⟩
      · unfold pb_cnt; rw [if_neg (by omega)]
      · rw [g] at c_1; exact absurd (nI_pos' (by omega)) c_1
    refine pb_top (show nI mn = nI (pb_cnt mn bu) from by rw [← hN]) ?_
    have hNle : pb_cnt mn bu ≤ mn := by unfold pb_cnt; split <;> omega
    rw [← md_P0 (b := b) (pg := pg)] at hw
    refine lv_istore_n (lv' := [(3, .int (nI (pb_cnt mn bu))), (0, .ref (a 0)), (1, .int (nI b)), (2, .int x)]) hx hb d_Md_writeRoot_17 rfl hl (by decide) rfl (fun ls hl => ?_)
    refine lv_aload_n hx hb d_Md_writeRoot_18 rfl (lv_at hl 1 rfl) ?_
    refine lv_bipush (v := nI 64) hx hb d_Md_writeRoot_19 (by decide +kernel) ?_
    refine lv_iload_n hx hb d_Md_writeRoot_21 rfl (lv_at hl 2 rfl) ?_
    refine pb_mul hx hb d_Md_writeRoot_22 ?_
    refine lv_iload_n hx hb d_Md_writeRoot_23 rfl (lv_at hl 0 rfl) ?_
    refine pb_vV (As := [.int (nI (64 * b)), .int (nI (pb_cnt mn bu))]) (rest := []) C hA hw k_Md_write m_287 (c_Md_wp l D a k n op tn mn th fl wr bl fd wh bf M b 0 (64 * b) (pb_cnt mn bu) pg _ hb64 (by omega) (by omega) (by rw [hpg0 0 (by omega)]; rfl) (by omega)) rfl hl.1 0 2 rfl rfl rfl ⟨by decide, by decide⟩ ⟨Nat.zero_le _, Nat.zero_le _⟩ rfl (Nat.le_of_ble_eq_true rfl) d_Md_writeRoot_24 (fun u24 H locs h24 hw => ?_)
    refine lv_iconst (v := nI 0) hx hb d_Md_writeRoot_27 (by decide +kernel) ?_
    refine lv_istore (lv' := [(4, .int (nI 0)), (3, .int (nI (pb_cnt mn bu))), (0, .ref (a 0)), (1, .int (nI b)), (2, .int x)]) hx hb d_Md_writeRoot_28 hl (by decide) rfl (fun ls hl => ?_)
    refine lv_iconst (v := nI 1) hx hb d_Md_writeRoot_30 (by decide +kernel) ?_
    refine lv_istore (lv' := [(5, .int (nI 1)), (4, .int (nI 0)), (3, .int (nI (pb_cnt mn bu))), (0, .ref (a 0)), (1, .int (nI b)), (2, .int x)]) hx hb d_Md_writeRoot_31 hl (by decide) rfl (fun ls hl => ?_)
    have loop33 : ∀ (fu : Nat) (kk q : Nat) (H : Heap) (locs : List Loc) (ls : Array Slot), (1 ≤ kk) → (kk ≤ 60) → (60 + 1 ≤ kk + fu) → (q ≤ kk) → (q = if kk - 1 ≤ bu then kk - 1 else kk) → pb_W D A s.heap (md_W a k n op tn mn th fl (wr + kk) (pb_flat (pb_rowf M b kk pg)) bl fd (pb_fill wh wr kk (fun j => 64 * b + j)) (pb_fill bf wr kk (fun j => M b j))) H locs → lv_has ls 6 [(5, .int (nI kk)), (4, .int (nI q)), (3, .int (nI (pb_cnt mn bu))), (0, .ref (a 0)), (1, .int (nI b)), (2, .int x)] → W p l e R s m args below meth c H locs 0 0 Q (F0 m 33 ls []) := by
      intro fu
      induction fu with
      | zero =>
        intro kk q H locs ls h1 h2 hn hq1 hat
        exfalso
        omega
      | succ fu ih =>
        intro kk q H locs ls h1 h2 hn hq1 hat hw hl
        refine lv_iload hx hb d_Md_writeRoot_33 (lv_at hl 0 rfl) ?_
        refine lv_bipush (v := nI 60) hx hb d_Md_writeRoot_35 (by decide +kernel) ?_
        refine pb_ge (tgt := 86) (by omega) (by omega) hx hb d_Md_writeRoot_37 (by decide) (fun c_2 => ?_) (fun c_2 => ?_)
        · obtain rfl : kk = 60 := by omega
          refine lv_aload_n hx hb d_Md_writeRoot_86 rfl (lv_at hl 3 rfl) ?_
          refine lv_iload_n hx hb d_Md_writeRoot_87 rfl (lv_at hl 4 rfl) ?_
          refine pb_vV (As := [.int (nI b)]) (rest := []) C hA hw k_Md_writeSum m_291 (c_Md_writeSum l D a k n op tn mn th fl wr bl fd wh bf M b pg _ hb64 hpgs hwr) rfl hl.1 0 2 rfl rfl rfl ⟨by decide, by decide⟩ ⟨Nat.zero_le _, Nat.zero_le _⟩ rfl (Nat.le_of_ble_eq_true rfl) d_Md_writeRoot_88 (fun u88 H locs h88 hw => ?_)
          exact kr _ _ _ _ () d_Md_writeRoot_91 hw trivial
        · refine lv_iload hx hb d_Md_writeRoot_40 (lv_at hl 1 rfl) ?_
          refine lv_iload_n hx hb d_Md_writeRoot_42 rfl (lv_at hl 5 rfl) ?_
          refine lv_icmp_ne (tgt := 49) hx hb d_Md_writeRoot_43 (by decide) (fun c_3 => ?_) (fun c_3 => ?_)
          · have hat2 : q = if kk - 1 < bu then kk - 1 else kk := by
              have g : q ≠ bu := fun z => c_3 ((hbu q (by omega)).mpr z)
              split at hat <;> split <;> omega
            have hat3 := pb_at_lt (mn := mn) (bu := bu) h1
            refine lv_aload_n hx hb d_Md_writeRoot_49 rfl (lv_at hl 3 rfl) ?_
            refine lv_bipush (v := nI 64) hx hb d_Md_writeRoot_50 (by decide +kernel) ?_
            refine lv_iload_n hx hb d_Md_writeRoot_52 rfl (lv_at hl 4 rfl) ?_
            refine pb_mul hx hb d_Md_writeRoot_53 ?_
            refine lv_iload hx hb d_Md_writeRoot_54 (lv_at hl 0 rfl) ?_
            refine pb_add hx hb d_Md_writeRoot_56 ?_
            refine lv_iload hx hb d_Md_writeRoot_57 (lv_at hl 0 rfl) ?_
            refine lv_iload_n hx hb d_Md_writeRoot_59 rfl (lv_at hl 2 rfl) ?_
            refine pb_gt (tgt := 73) (by omega) (by omega) hx hb d_Md_writeRoot_60 (by decide) (fun c_4 => ?_) (fun c_4 => ?_)
            · refine lv_iconst (v := nI 0) hx hb d_Md_writeRoot_73 (by decide +kernel) ?_
              have hpk : pg kk = if kk ≤ pb_cnt mn bu then en (if kk - 1 < bu then kk - 1 else kk) else 0 := by
                rw [hpg0 kk (by omega)]
                unfold pb_root
                rw [if_neg (by omega)]
              refine pb_top (show nI 0 = nI (pg kk) from by rw [hpk, if_neg (by omega)]) ?_
              refine pb_vV (As := [.int (nI ((64 * b) + kk)), .int (nI (pg kk))]) (rest := []) C hA hw k_Md_write m_287 (c_Md_wp l D a k n op tn mn th fl wr bl fd wh bf M b kk ((64 * b) + kk) (pg kk) pg _ hb64 (by omega) (by omega) rfl (by omega)) rfl hl.1 0 2 rfl rfl rfl ⟨by decide, by decide⟩ ⟨Nat.zero_le _, Nat.zero_le _⟩ rfl (Nat.le_of_ble_eq_true rfl) d_Md_writeRoot_74 (fun u74 H locs h74 hw => ?_)
              refine lv_iinc (v := nI (q + 1)) (lv' := [(4, .int (nI (q + 1))), (5, .int (nI kk)), (3, .int (nI (pb_cnt mn bu))), (0, .ref (a 0)), (1, .int (nI b)), (2, .int x)]) hx hb d_Md_writeRoot_77 hl (k := 1) rfl (pb_i1 _) (by decide) rfl (fun ls hl => ?_)
              refine lv_iinc (v := nI (kk + 1)) (lv' := [(5, .int (nI (kk + 1))), (4, .int (nI (q + 1))), (3, .int (nI (pb_cnt mn bu))), (0, .ref (a 0)), (1, .int (nI b)), (2, .int x)]) hx hb d_Md_writeRoot_80 hl (k := 1) rfl (pb_i1 _) (by decide) rfl (fun ls hl => ?_)
              refine lv_goto (tgt := 33) hx hb d_Md_writeRoot_83 (by decide) ?_
              exact ih (kk + 1) (q + 1) _ _ _ (by omega) (by omega) (by omega) (by split at hat2 <;> omega) (by split at hat2 <;> split <;> omega) hw (lv_sub hl [0, 1, 2, 3, 4, 5] rfl)
            · refine lv_aload_n hx hb d_Md_writeRoot_63 rfl (lv_at hl 3 rfl) ?_
              refine md_g_block C hw.1 d_Md_writeRoot_64 ?_
              refine lv_iload hx hb d_Md_writeRoot_67 (lv_at hl 1 rfl) ?_
              refine md_l_block C hw.1 (by have := hat3 c_4; omega) d_Md_writeRoot_69 ?_
              refine lv_goto (tgt := 74) hx hb d_Md_writeRoot_70 (by decide) ?_
              have hpk : pg kk = if kk ≤ pb_cnt mn bu then en (if kk - 1 < bu then kk - 1 else kk) else 0 := by
                rw [hpg0 kk (by omega)]
                unfold pb_root
                rw [if_neg (by omega)]
              refine pb_top (show nI (bl q) = nI (pg kk) from by rw [hpk, if_pos (by omega), ← hat2, hbe q (by have := hat3 c_4; omega)]) ?_
              refine pb_vV (As := [.int (nI ((64 * b) + kk)), .int (nI (pg kk))]) (rest := []) C hA hw k_Md_write m_287 (c_Md_wp l D a k n op tn mn th fl wr bl fd wh bf M b kk ((64 * b) + kk) (pg kk) pg _ hb64 (by omega) (by omega) rfl (by omega)) rfl hl.1 0 2 rfl rfl rfl ⟨by decide, by decide⟩ ⟨Nat.zero_le _, Nat.zero_le _⟩ rfl (Nat.le_of_ble_eq_true rfl) d_Md_writeRoot_74 (fun u74 H locs h74 hw => ?_)
              refine lv_iinc (v := nI (q + 1)) (lv' := [(4, .int (nI (q + 1))), (5, .int (nI kk)), (3, .int (nI (pb_cnt mn bu))), (0, .ref (a 0)), (1, .int (nI b)), (2, .int x)]) hx hb d_Md_writeRoot_77 hl (k := 1) rfl (pb_i1 _) (by decide) rfl (fun ls hl => ?_)
              refine lv_iinc (v := nI (kk + 1)) (lv' := [(5, .int (nI (kk + 1))), (4, .int (nI (q + 1))), (3, .int (nI (pb_cnt mn bu))), (0, .ref (a 0)), (1, .int (nI b)), (2, .int x)]) hx hb d_Md_writeRoot_80 hl (k := 1) rfl (pb_i1 _) (by decide) rfl (fun ls hl => ?_)
              refine lv_goto (tgt := 33) hx hb d_Md_writeRoot_83 (by decide) ?_
              exact ih (kk + 1) (q + 1) _ _ _ (by omega) (by omega) (by omega) (by split at hat2 <;> omega) (by split at hat2 <;> split <;> omega) hw (lv_sub hl [0, 1, 2, 3, 4, 5] rfl)
          · refine lv_iinc (v := nI (q + 1)) (lv' := [(4, .int (nI (q + 1))), (5, .int (nI kk)), (3, .int (nI (pb_cnt mn bu))), (0, .ref (a 0)), (1, .int (nI b)), (2, .int x)]) hx hb d_Md_writeRoot_46 hl (k := 1) rfl (pb_i1 _) (by decide) rfl (fun ls hl => ?_)
            have hat2 : q + 1 = if kk - 1 < bu then kk - 1 else kk := by
              have g := (hbu q (by omega)).mp c_3
              split at hat <;> split <;> omega
            have hat3 := pb_at_lt (mn := mn) (bu := bu) h1
            refine lv_aload_n hx hb d_Md_writeRoot_49 rfl (lv_at hl 3 rfl) ?_
            refine lv_bipush (v := nI 64) hx hb d_Md_writeRoot_50 (by decide +kernel) ?_
            refine lv_iload_n hx hb d_Md_writeRoot_52 rfl (lv_at hl 4 rfl) ?_
            refine pb_mul hx hb d_Md_writeRoot_53 ?_
            refine lv_iload hx hb d_Md_writeRoot_54 (lv_at hl 1 rfl) ?_
            refine pb_add hx hb d_Md_writeRoot_56 ?_
            refine lv_iload hx hb d_Md_writeRoot_57 (lv_at hl 1 rfl) ?_
            refine lv_iload_n hx hb d_Md_writeRoot_59 rfl (lv_at hl 2 rfl) ?_
            refine pb_gt (tgt := 73) (by omega) (by omega) hx hb d_Md_writeRoot_60 (by decide) (fun c_4 => ?_) (fun c_4 => ?_)
            · refine lv_iconst (v := nI 0) hx hb d_Md_writeRoot_73 (by decide +kernel) ?_
              have hpk : pg kk = if kk ≤ pb_cnt mn bu then en (if kk - 1 < bu then kk - 1 else kk) else 0 := by
                rw [hpg0 kk (by omega)]
                unfold pb_root
                rw [if_neg (by omega)]
              refine pb_top (show nI 0 = nI (pg kk) from by rw [hpk, if_neg (by omega)]) ?_
              refine pb_vV (As := [.int (nI ((64 * b) + kk)), .int (nI (pg kk))]) (rest := []) C hA hw k_Md_write m_287 (c_Md_wp l D a k n op tn mn th fl wr bl fd wh bf M b kk ((64 * b) + kk) (pg kk) pg _ hb64 (by omega) (by omega) rfl (by omega)) rfl hl.1 0 2 rfl rfl rfl ⟨by decide, by decide⟩ ⟨Nat.zero_le _, Nat.zero_le _⟩ rfl (Nat.le_of_ble_eq_true rfl) d_Md_writeRoot_74 (fun u74 H locs h74 hw => ?_)
              refine lv_iinc (v := nI (q + 1 + 1)) (lv' := [(4, .int (nI (q + 1 + 1))), (5, .int (nI kk)), (3, .int (nI (pb_cnt mn bu))), (0, .ref (a 0)), (1, .int (nI b)), (2, .int x)]) hx hb d_Md_writeRoot_77 hl (k := 0) rfl (pb_i1 _) (by decide) rfl (fun ls hl => ?_)
              refine lv_iinc (v := nI (kk + 1)) (lv' := [(5, .int (nI (kk + 1))), (4, .int (nI (q + 1 + 1))), (3, .int (nI (pb_cnt mn bu))), (0, .ref (a 0)), (1, .int (nI b)), (2, .int x)]) hx hb d_Md_writeRoot_80 hl (k := 1) rfl (pb_i1 _) (by decide) rfl (fun ls hl => ?_)
              refine lv_goto (tgt := 33) hx hb d_Md_writeRoot_83 (by decide) ?_
              exact ih (kk + 1) (q + 1 + 1) _ _ _ (by omega) (by omega) (by omega) (by split at hat2 <;> omega) (by split at hat2 <;> split <;> omega) hw (lv_sub hl [0, 1, 2, 3, 4, 5] rfl)
            · refine lv_aload_n hx hb d_Md_writeRoot_63 rfl (lv_at hl 3 rfl) ?_
              refine md_g_block C hw.1 d_Md_writeRoot_64 ?_
              refine lv_iload hx hb d_Md_writeRoot_67 (lv_at hl 0 rfl) ?_
              refine md_l_block C hw.1 (by have := hat3 c_4; omega) d_Md_writeRoot_69 ?_
              refine lv_goto (tgt := 74) hx hb d_Md_writeRoot_70 (by decide) ?_
              have hpk : pg kk = if kk ≤ pb_cnt mn bu then en (if kk - 1 < bu then kk - 1 else kk) else 0 := by
                rw [hpg0 kk (by omega)]
                unfold pb_root
                rw [if_neg (by omega)]
              refine pb_top (show nI (bl (q + 1)) = nI (pg kk) from by rw [hpk, if_pos (by omega), ← hat2, hbe (q + 1) (by have := hat3 c_4; omega)]) ?_
              refine pb_vV (As := [.int (nI ((64 * b) + kk)), .int (nI (pg kk))]) (rest := []) C hA hw k_Md_write m_287 (c_Md_wp l D a k n op tn mn th fl wr bl fd wh bf M b kk ((64 * b) + kk) (pg kk) pg _ hb64 (by omega) (by omega) rfl (by omega)) rfl hl.1 0 2 rfl rfl rfl ⟨by decide, by decide⟩ ⟨Nat.zero_le _, Nat.zero_le _⟩ rfl (Nat.le_of_ble_eq_true rfl) d_Md_writeRoot_74 (fun u74 H locs h74 hw => ?_)
              refine lv_iinc (v := nI (q + 1 + 1)) (lv' := [(4, .int (nI (q + 1 + 1))), (5, .int (nI kk)), (3, .int (nI (pb_cnt mn bu))), (0, .ref (a 0)), (1, .int (nI b)), (2, .int x)]) hx hb d_Md_writeRoot_77 hl (k := 0) rfl (pb_i1 _) (by decide) rfl (fun ls hl => ?_)
              refine lv_iinc (v := nI (kk + 1)) (lv' := [(5, .int (nI (kk + 1))), (4, .int (nI (q + 1 + 1))), (3, .int (nI (pb_cnt mn bu))), (0, .ref (a 0)), (1, .int (nI b)), (2, .int x)]) hx hb d_Md_writeRoot_80 hl (k := 1) rfl (pb_i1 _) (by decide) rfl (fun ls hl => ?_)
              refine lv_goto (tgt := 33) hx hb d_Md_writeRoot_83 (by decide) ?_
              exact ih (kk + 1) (q + 1 + 1) _ _ _ (by omega) (by omega) (by omega) (by split at hat2 <;> omega) (by split at hat2 <;> split <;> omega) hw (lv_sub hl [0, 1, 2, 3, 4, 5] rfl)
    exact loop33 61 1 0 _ _ _ (by omega) (by omega) (by omega) (by omega) (by rw [if_pos (by omega)]) hw (lv_sub hl [0, 1, 2, 3, 4, 5] rfl)
set_option maxHeartbeats 4000000 in
set_option maxRecDepth 100000 in
theorem c_Md_writeEntry (l : Launch) (D : va_G) (a : Nat → Nat) (k : Nat → ClassId) (n : Nat) (op : Nat) (tn : Nat) (mn : Nat) (th : Nat) (fl : Nat) (wr : Nat) (bl : Nat → Nat) (fd : Nat → Nat) (wh : Nat → Nat) (bf : Nat → Nat) (M : Nat → Nat → Nat) (b v : Nat) (pg : Nat → Nat) (sz0 : Nat) (hb64 : b < 64) (hv : v < 65536) (hfl : fl ≤ 48) (hpg0 : ∀ j, j < 60 → pg j = pb_ent v fl fd j) (hpgs : ∀ j, j < 4 → pg (60 + j) = pb_sb (pb_sum pg 60) j) (hwr : wr + 64 ≤ 129) : Met l y_Md_writeEntry (pb_ws y_Md_writeEntry b_Md_writeEntry 4 none) (pb_rm 2 0 0) (pb_P D k [.ref (a 0), .int (nI b), .int (nI v)] (md_W a k n op tn mn th fl wr (pb_flat M) bl fd wh bf) sz0) (pb_QV D (md_W a k n op tn mn th fl wr (pb_flat M) bl fd wh bf) sz0 (fun (u : Unit) => True) (fun (u : Unit) => md_W a k n op tn mn th fl (wr + 64) (pb_flat (pb_rowf M b 64 pg)) bl fd (pb_fill wh wr 64 (fun j => 64 * b + j)) (pb_fill bf wr 64 (fun j => M b j)))) 0 0 (va_A (md_W a k n op tn mn th fl wr (pb_flat M) bl fd wh bf) sz0) := by
  refine pb_mkV R_Md rfl (by decide) (Nat.le_of_ble_eq_true rfl) ?_
  intro p e R s m args below meth c Q A ls C hRc hA hw hl hini kr
  obtain ⟨H, hH⟩ : ∃ H : Heap, H = s.heap := ⟨_, rfl⟩
  obtain ⟨locs, hL⟩ : ∃ L : List Loc, L = [] := ⟨_, rfl⟩
  have hw : pb_W D A s.heap (md_W a k n op tn mn th fl wr (pb_flat M) bl fd wh bf) H locs := by rw [hH, hL]; exact hw
  rw [show W p l e R s m args below meth c s.heap [] 0 0 Q (F0 m 0 ls []) = W p l e R s m args below meth c H locs 0 0 Q (F0 m 0 ls []) by rw [hH, hL]]
  clear hH hL
  obtain ⟨hx, hb, hml, hown, hG, hkn, hR1, hR2⟩ := id C
  have hl : lv_has ls 4 [(0, .ref (a 0)), (1, .int (nI b)), (2, .int (nI v))] := hl
  rw [← md_P0 (b := b) (pg := pg)] at hw
  refine lv_aload_n hx hb d_Md_writeEntry_0 rfl (lv_at hl 0 rfl) ?_
  refine lv_bipush (v := nI 64) hx hb d_Md_writeEntry_1 (by decide +kernel) ?_
  refine lv_iload_n hx hb d_Md_writeEntry_3 rfl (lv_at hl 1 rfl) ?_
  refine pb_mul hx hb d_Md_writeEntry_4 ?_
  refine lv_iload_n hx hb d_Md_writeEntry_5 rfl (lv_at hl 2 rfl) ?_
  refine lv_sipush (v := nI 255) hx hb d_Md_writeEntry_6 (by decide +kernel) ?_
  refine lv_iand hx hb d_Md_writeEntry_9 ?_
  refine pb_top (show (nI v) &&& (nI 255) = nI (pg 0) from (by rw [hpg0 0 (by omega)]; exact pk_andN (by omega) 8 (by decide +kernel))) ?_
  refine pb_vV (As := [.int (nI (64 * b)), .int (nI (pg 0))]) (rest := []) C hA hw k_Md_write m_287 (c_Md_wp l D a k n op tn mn th fl wr bl fd wh bf M b 0 (64 * b) (pg 0) pg _ hb64 (by omega) (by omega) rfl (by omega)) rfl hl.1 0 2 rfl rfl rfl ⟨by decide, by decide⟩ ⟨Nat.zero_le _, Nat.zero_le _⟩ rfl (Nat.le_of_ble_eq_true rfl) d_Md_writeEntry_10 (fun u10 H locs h10 hw => ?_)
  refine lv_aload_n hx hb d_Md_writeEntry_13 rfl (lv_at hl 0 rfl) ?_
  refine lv_bipush (v := nI 64) hx hb d_Md_writeEntry_14 (by decide +kernel) ?_
  refine lv_iload_n hx hb d_Md_writeEntry_16 rfl (lv_at hl 1 rfl) ?_
  refine pb_mul hx hb d_Md_writeEntry_17 ?_
  refine lv_iconst (v := nI 1) hx hb d_Md_writeEntry_18 (by decide +kernel) ?_
  refine pb_add hx hb d_Md_writeEntry_19 ?_
  refine lv_iload_n hx hb d_Md_writeEntry_20 rfl (lv_at hl 2 rfl) ?_
  refine lv_bipush (v := nI 8) hx hb d_Md_writeEntry_21 (by decide +kernel) ?_
  refine lv_ishr hx hb d_Md_writeEntry_23 ?_
  refine pb_top (show (nI v) >>> ((nI 8) &&& 31) = nI (pg 1) from (by rw [hpg0 1 (by omega)]; exact pk_shrN (by omega) _ 8 (by decide +kernel))) ?_
  refine pb_vV (As := [.int (nI ((64 * b) + 1)), .int (nI (pg 1))]) (rest := []) C hA hw k_Md_write m_287 (c_Md_wp l D a k n op tn mn th fl wr bl fd wh bf M b 1 ((64 * b) + 1) (pg 1) pg _ hb64 (by omega) (by omega) rfl (by omega)) rfl hl.1 0 2 rfl rfl rfl ⟨by decide, by decide⟩ ⟨Nat.zero_le _, Nat.zero_le _⟩ rfl (Nat.le_of_ble_eq_true rfl) d_Md_writeEntry_24 (fun u24 H locs h24 hw => ?_)
  refine lv_aload_n hx hb d_Md_writeEntry_27 rfl (lv_at hl 0 rfl) ?_
  refine lv_bipush (v := nI 64) hx hb d_Md_writeEntry_28 (by decide +kernel) ?_
  refine lv_iload_n hx hb d_Md_writeEntry_30 rfl (lv_at hl 1 rfl) ?_
  refine pb_mul hx hb d_Md_writeEntry_31 ?_
  refine lv_iconst (v := nI 2) hx hb d_Md_writeEntry_32 (by decide +kernel) ?_
  refine pb_add hx hb d_Md_writeEntry_33 ?_
  refine lv_aload_n hx hb d_Md_writeEntry_34 rfl (lv_at hl 0 rfl) ?_
  refine md_g_fedLong C hw.1 d_Md_writeEntry_35 ?_
  refine pb_top (show nI fl = nI (pg 2) from by rw [hpg0 2 (by omega)]; rfl) ?_
  refine pb_vV (As := [.int (nI ((64 * b) + 2)), .int (nI (pg 2))]) (rest := []) C hA hw k_Md_write m_287 (c_Md_wp l D a k n op tn mn th fl wr bl fd wh bf M b 2 ((64 * b) + 2) (pg 2) pg _ hb64 (by omega) (by omega) rfl (by omega)) rfl hl.1 0 2 rfl rfl rfl ⟨by decide, by decide⟩ ⟨Nat.zero_le _, Nat.zero_le _⟩ rfl (Nat.le_of_ble_eq_true rfl) d_Md_writeEntry_38 (fun u38 H locs h38 hw => ?_)
  refine lv_iconst (v := nI 3) hx hb d_Md_writeEntry_41 (by decide +kernel) ?_
  refine lv_istore_n (lv' := [(3, .int (nI 3)), (0, .ref (a 0)), (1, .int (nI b)), (2, .int (nI v))]) hx hb d_Md_writeEntry_42 rfl hl (by decide) rfl (fun ls hl => ?_)
  have loop43 : ∀ (fu : Nat) (kk : Nat) (H : Heap) (locs : List Loc) (ls : Array Slot), (3 ≤ kk) → (kk ≤ 60) → (60 + 1 ≤ kk + fu) → pb_W D A s.heap (md_W a k n op tn mn th fl (wr + kk) (pb_flat (pb_rowf M b kk pg)) bl fd (pb_fill wh wr kk (fun j => 64 * b + j)) (pb_fill bf wr kk (fun j => M b j))) H locs → lv_has ls 4 [(3, .int (nI kk)), (0, .ref (a 0)), (1, .int (nI b)), (2, .int (nI v))] → W p l e R s m args below meth c H locs 0 0 Q (F0 m 43 ls []) := by
    intro fu
    induction fu with
    | zero =>
      intro kk H locs ls h1 h2 hn
      exfalso
      omega
    | succ fu ih =>
      intro kk H locs ls h1 h2 hn hw hl
      refine lv_iload_n hx hb d_Md_writeEntry_43 rfl (lv_at hl 0 rfl) ?_
      refine lv_bipush (v := nI 60) hx hb d_Md_writeEntry_44 (by decide +kernel) ?_
      refine pb_ge (tgt := 87) (by omega) (by omega) hx hb d_Md_writeEntry_46 (by decide) (fun c_1 => ?_) (fun c_1 => ?_)
      · obtain rfl : kk = 60 := by omega
        refine lv_aload_n hx hb d_Md_writeEntry_87 rfl (lv_at hl 1 rfl) ?_
        refine lv_iload_n hx hb d_Md_writeEntry_88 rfl (lv_at hl 2 rfl) ?_
        refine pb_vV (As := [.int (nI b)]) (rest := []) C hA hw k_Md_writeSum m_291 (c_Md_writeSum l D a k n op tn mn th fl wr bl fd wh bf M b pg _ hb64 hpgs hwr) rfl hl.1 0 2 rfl rfl rfl ⟨by decide, by decide⟩ ⟨Nat.zero_le _, Nat.zero_le _⟩ rfl (Nat.le_of_ble_eq_true rfl) d_Md_writeEntry_89 (fun u89 H locs h89 hw => ?_)
        exact kr _ _ _ _ () d_Md_writeEntry_92 hw trivial
      · refine lv_aload_n hx hb d_Md_writeEntry_49 rfl (lv_at hl 1 rfl) ?_
        refine lv_bipush (v := nI 64) hx hb d_Md_writeEntry_50 (by decide +kernel) ?_
        refine lv_iload_n hx hb d_Md_writeEntry_52 rfl (lv_at hl 2 rfl) ?_
        refine pb_mul hx hb d_Md_writeEntry_53 ?_
        refine lv_iload_n hx hb d_Md_writeEntry_54 rfl (lv_at hl 0 rfl) ?_
        refine pb_add hx hb d_Md_writeEntry_55 ?_
        refine lv_iload_n hx hb d_Md_writeEntry_56 rfl (lv_at hl 0 rfl) ?_
        refine lv_iconst (v := nI 3) hx hb d_Md_writeEntry_57 (by decide +kernel) ?_
        refine pb_sub (by omega) hx hb d_Md_writeEntry_58 ?_
        refine lv_aload_n hx hb d_Md_writeEntry_59 rfl (lv_at hl 1 rfl) ?_
        refine md_g_fedLong C hw.1 d_Md_writeEntry_60 ?_
        refine pb_ge (tgt := 77) (by omega) (by omega) hx hb d_Md_writeEntry_63 (by decide) (fun c_2 => ?_) (fun c_2 => ?_)
        · refine lv_iconst (v := nI 0) hx hb d_Md_writeEntry_77 (by decide +kernel) ?_
          have hpk : pg kk = if kk < 3 + fl then fd (kk - 3) else 0 := by
            rw [hpg0 kk (by omega)]
            unfold pb_ent
            rw [if_neg (by omega), if_neg (by omega), if_neg (by omega)]
          refine pb_top (show nI 0 = nI (pg kk) from by rw [hpk, if_neg (by omega)]) ?_
          refine pb_vV (As := [.int (nI ((64 * b) + kk)), .int (nI (pg kk))]) (rest := []) C hA hw k_Md_write m_287 (c_Md_wp l D a k n op tn mn th fl wr bl fd wh bf M b kk ((64 * b) + kk) (pg kk) pg _ hb64 (by omega) (by omega) rfl (by omega)) rfl hl.1 0 2 rfl rfl rfl ⟨by decide, by decide⟩ ⟨Nat.zero_le _, Nat.zero_le _⟩ rfl (Nat.le_of_ble_eq_true rfl) d_Md_writeEntry_78 (fun u78 H locs h78 hw => ?_)
          refine lv_iinc (v := nI (kk + 1)) (lv' := [(3, .int (nI (kk + 1))), (0, .ref (a 0)), (1, .int (nI b)), (2, .int (nI v))]) hx hb d_Md_writeEntry_81 hl (k := 0) rfl (pb_i1 _) (by decide) rfl (fun ls hl => ?_)
          refine lv_goto (tgt := 43) hx hb d_Md_writeEntry_84 (by decide) ?_
          exact ih (kk + 1) _ _ _ (by omega) (by omega) (by omega) hw (lv_sub hl [0, 1, 2, 3] rfl)
        · refine lv_aload_n hx hb d_Md_writeEntry_66 rfl (lv_at hl 1 rfl) ?_
          refine md_g_fed C hw.1 d_Md_writeEntry_67 ?_
          refine lv_iload_n hx hb d_Md_writeEntry_70 rfl (lv_at hl 0 rfl) ?_
          refine lv_iconst (v := nI 3) hx hb d_Md_writeEntry_71 (by decide +kernel) ?_
          refine pb_sub (by omega) hx hb d_Md_writeEntry_72 ?_
          refine md_l_fed C hw.1 (by omega) d_Md_writeEntry_73 ?_
          refine lv_goto (tgt := 78) hx hb d_Md_writeEntry_74 (by decide) ?_
          have hpk : pg kk = if kk < 3 + fl then fd (kk - 3) else 0 := by
            rw [hpg0 kk (by omega)]
            unfold pb_ent
            rw [if_neg (by omega), if_neg (by omega), if_neg (by omega)]
          refine pb_top (show nI (fd (kk - 3)) = nI (pg kk) from by rw [hpk, if_pos (by omega)]) ?_
          refine pb_vV (As := [.int (nI ((64 * b) + kk)), .int (nI (pg kk))]) (rest := []) C hA hw k_Md_write m_287 (c_Md_wp l D a k n op tn mn th fl wr bl fd wh bf M b kk ((64 * b) + kk) (pg kk) pg _ hb64 (by omega) (by omega) rfl (by omega)) rfl hl.1 0 2 rfl rfl rfl ⟨by decide, by decide⟩ ⟨Nat.zero_le _, Nat.zero_le _⟩ rfl (Nat.le_of_ble_eq_true rfl) d_Md_writeEntry_78 (fun u78 H locs h78 hw => ?_)
          refine lv_iinc (v := nI (kk + 1)) (lv' := [(3, .int (nI (kk + 1))), (0, .ref (a 0)), (1, .int (nI b)), (2, .int (nI v))]) hx hb d_Md_writeEntry_81 hl (k := 0) rfl (pb_i1 _) (by decide) rfl (fun ls hl => ?_)
          refine lv_goto (tgt := 43) hx hb d_Md_writeEntry_84 (by decide) ?_
          exact ih (kk + 1) _ _ _ (by omega) (by omega) (by omega) hw (lv_sub hl [0, 1, 2, 3] rfl)
  exact loop43 61 3 _ _ _ (by omega) (by omega) (by omega) hw (lv_sub hl [0, 1, 2, 3] rfl)
end
section
def pb_turnh (w : Nat → Nat) (sz t : Nat) : Nat → Nat := va_up (pb_fill w sz 64 (fun j => 64 * (3 - t) + j)) (sz + 64) 0
/-- a place of the store, by two ints -/
def pb_isb (n : Nat) (x y : Int32) (b i : Nat) : Prop := b < n ∧ i < 64 ∧ x = nI b ∧ y = nI i
def pb_nob (n : Nat) (x y : Int32) : Prop := x < 0 ∨ nI n ≤ x ∨ y < 0 ∨ nI 64 ≤ y
def pb_byts (n : Nat) (M : Nat → Nat → Nat) (x y : Int32) (r : Int32) (z : Nat) : Prop := (∃ b i, pb_isb n x y b i ∧ r = nI (M b i) ∧ z = 0) ∨ (pb_nob n x y ∧ r = nI 0 ∧ z = 1)
/-- the least bad block so far: 1000 if there is none -/
def pb_lm (M : Nat → Nat → Nat) (t q w : Nat) : Prop := (w = 1000 ∧ ∀ e, e < q → pb_eok (M (M t (1 + e)))) ∨ pb_leastbad M t q w
theorem pb_lm_ok {M : Nat → Nat → Nat} {t q w : Nat} (h : pb_lm M t q w) (hok : pb_eok (M (M t (1 + q)))) : pb_lm M t (q + 1) w := by
  rcases h with ⟨h1, h2⟩ | ⟨⟨e, g1, g2, g3⟩, h2⟩
  · refine Or.inl ⟨h1, fun e he => ?_⟩
    rcases Nat.lt_succ_iff_lt_or_eq.mp he with z | z
    · exact h2 e z
    · subst z; exact hok
  · refine Or.inr ⟨⟨e, by omega, g2, g3⟩, fun e he hb => ?_⟩
    rcases Nat.lt_succ_iff_lt_or_eq.mp he with z | z
    · exact h2 e z hb
    · subst z; exact absurd hok hb
theorem pb_lm_no {M : Nat → Nat → Nat} {t q w : Nat} (h : pb_lm M t q w) (hno : ¬ pb_eok (M (M t (1 + q)))) (hb : M t (1 + q) < w) : pb_lm M t (q + 1) (M t (1 + q)) := by
  rcases h with ⟨h1, h2⟩ | ⟨⟨e, g1, g2, g3⟩, h2⟩
  · refine Or.inr ⟨⟨q, by omega, rfl, hno⟩, fun e he hb2 => ?_⟩
    rcases Nat.lt_succ_iff_lt_or_eq.mp he with z | z
    · exact absurd (h2 e z) hb2
    · subst z; exact Nat.le_refl _
  · refine Or.inr ⟨⟨q, by omega, rfl, hno⟩, fun e he hb2 => ?_⟩
    rcases Nat.lt_succ_iff_lt_or_eq.mp he with z | z
    · exact Nat.le_trans (Nat.le_of_lt hb) (h2 e z hb2)
    · subst z; exact Nat.le_refl _
theorem pb_lm_ge {M : Nat → Nat → Nat} {t q w : Nat} (h : pb_lm M t q w) (hb1 : M t (1 + q) < 64) (hb : w ≤ M t (1 + q)) : pb_lm M t (q + 1) w := by
  rcases h with ⟨h1, h2⟩ | ⟨⟨e, g1, g2, g3⟩, h2⟩
  · omega
  · refine Or.inr ⟨⟨e, by omega, g2, g3⟩, fun e he hb2 => ?_⟩
    rcases Nat.lt_succ_iff_lt_or_eq.mp he with z | z
    · exact h2 e z hb2
    · subst z; exact hb
end
section
-- ===== contracts of the reference's reading methods (by gen/m6.py) =====
set_option maxHeartbeats 4000000 in
set_option maxRecDepth 100000 in
theorem c_Md_turnTo (l : Launch) (D : va_G) (a : Nat → Nat) (k : Nat → ClassId) (n : Nat) (op : Nat) (tn : Nat) (mn : Nat) (th : Nat) (fl : Nat) (wr : Nat) (bl : Nat → Nat) (fd : Nat → Nat) (wh : Nat → Nat) (bf : Nat → Nat) (M : Nat → Nat → Nat) (t : Nat) (sz0 : Nat) (hwr : wr < 129) : Met l y_Md_turnTo (pb_ws y_Md_turnTo b_Md_turnTo 2 none) (pb_rm 1 0 0) (pb_P D k [.ref (a 0), .int (nI t)] (md_W a k n op tn mn th fl wr (pb_flat M) bl fd wh bf) sz0) (pb_QV D (md_W a k n op tn mn th fl wr (pb_flat M) bl fd wh bf) sz0 (fun (u : Unit) => True) (fun (u : Unit) => md_W a k n op t mn th fl (wr + 1) (pb_flat (pb_put1 M 0 0 t)) bl fd (va_up wh wr 0) (va_up bf wr (M 0 0)))) 0 0 (va_A (md_W a k n op tn mn th fl wr (pb_flat M) bl fd wh bf) sz0) := by
  refine pb_mkV R_Md rfl (by decide) (Nat.le_of_ble_eq_true rfl) ?_
  intro p e R s m args below meth c Q A ls C hRc hA hw hl hini kr
  obtain ⟨H, hH⟩ : ∃ H : Heap, H = s.heap := ⟨_, rfl⟩
  obtain ⟨locs, hL⟩ : ∃ L : List Loc, L = [] := ⟨_, rfl⟩
  have hw : pb_W D A s.heap (md_W a k n op tn mn th fl wr (pb_flat M) bl fd wh bf) H locs := by rw [hH, hL]; exact hw
  rw [show W p l e R s m args below meth c s.heap [] 0 0 Q (F0 m 0 ls []) = W p l e R s m args below meth c H locs 0 0 Q (F0 m 0 ls []) by rw [hH, hL]]
  clear hH hL
  obtain ⟨hx, hb, hml, hown, hG, hkn, hR1, hR2⟩ := id C
  have hl : lv_has ls 2 [(0, .ref (a 0)), (1, .int (nI t))] := hl
  refine lv_aload_n hx hb d_Md_turnTo_0 rfl (lv_at hl 0 rfl) ?_
  refine lv_iconst (v := nI 0) hx hb d_Md_turnTo_1 (by decide +kernel) ?_
  refine lv_iload_n hx hb d_Md_turnTo_2 rfl (lv_at hl 1 rfl) ?_
  refine pb_vV (As := [.int (nI 0), .int (nI t)]) (rest := []) C hA hw k_Md_write m_287 (c_Md_write l D a k n op tn mn th fl wr bl fd wh bf M 0 0 0 t _ (by decide) (by decide) rfl hwr) rfl hl.1 0 2 rfl rfl rfl ⟨by decide, by decide⟩ ⟨Nat.zero_le _, Nat.zero_le _⟩ rfl (Nat.le_of_ble_eq_true rfl) d_Md_turnTo_3 (fun u3 H locs h3 hw => ?_)
  refine lv_aload_n hx hb d_Md_turnTo_6 rfl (lv_at hl 0 rfl) ?_
  refine lv_iload_n hx hb d_Md_turnTo_7 rfl (lv_at hl 1 rfl) ?_
  refine md_p_turn C hw d_Md_turnTo_8 (fun H locs hw => ?_)
  exact kr _ _ _ _ () d_Md_turnTo_11 hw trivial
set_option maxHeartbeats 4000000 in
set_option maxRecDepth 100000 in
theorem c_Md_isUsed (l : Launch) (D : va_G) (a : Nat → Nat) (k : Nat → ClassId) (n : Nat) (op : Nat) (tn : Nat) (mn : Nat) (th : Nat) (fl : Nat) (wr : Nat) (bl : Nat → Nat) (fd : Nat → Nat) (wh : Nat → Nat) (bf : Nat → Nat) (M : Nat → Nat → Nat) (en : Nat → Nat) (b : Nat) (hmn : mn ≤ 40) (hbe : ∀ q, q < mn → bl q = en q) (hen : ∀ q, q < mn → en q < 64) (hb6 : b < 256) : Met l y_Md_isUsed (pb_ws y_Md_isUsed b_Md_isUsed 3 (some .boolean)) (pb_rm 0 0 0) (pb_Pr D k [.ref (a 0), .int (nI b)] (md_W a k n op tn mn th fl wr (pb_flat M) bl fd wh bf)) (vp_Si (fun r : Int32 => (r = nI 1 ∧ pb_used mn en b) ∨ (r = nI 0 ∧ ¬ (pb_used mn en b)))) 0 0 (fun _ => False) := by
  refine pb_mkR R_Md rfl (by decide) (Nat.le_of_ble_eq_true rfl) ?_
  intro p e R s m args below meth c Q ls C hP hl kr
  obtain ⟨hx, hb, hml, hown, hG, hkn, hR1, hR2⟩ := id C
  have hl : lv_has ls 3 [(0, .ref (a 0)), (1, .int (nI b))] := hl
  refine lv_iconst (v := nI 0) hx hb d_Md_isUsed_0 (by decide +kernel) ?_
  refine lv_istore_n (lv' := [(2, .int (nI 0)), (0, .ref (a 0)), (1, .int (nI b))]) hx hb d_Md_isUsed_1 rfl hl (by decide) rfl (fun ls hl => ?_)
  have loop2 : ∀ (fu : Nat) (i : Nat) (ls : Array Slot), (i ≤ mn) → (mn + 1 ≤ i + fu) → (∀ j, j < i → en j ≠ b) → lv_has ls 3 [(2, .int (nI i)), (0, .ref (a 0)), (1, .int (nI b))] → W p l e R s m args below meth c s.heap [] 0 0 Q (F0 m 2 ls []) := by
    intro fu
    induction fu with
    | zero =>
      intro i ls hi hn hs
      exfalso
      omega
    | succ fu ih =>
      intro i ls hi hn hs hl
      refine lv_iload_n hx hb d_Md_isUsed_2 rfl (lv_at hl 0 rfl) ?_
      refine lv_aload_n hx hb d_Md_isUsed_3 rfl (lv_at hl 1 rfl) ?_
      refine md_g_entries C hP d_Md_isUsed_4 ?_
      refine pb_ge (tgt := 28) (by omega) (by omega) hx hb d_Md_isUsed_7 (by decide) (fun c_1 => ?_) (fun c_1 => ?_)
      · refine lv_iconst (v := nI 0) hx hb d_Md_isUsed_28 (by decide +kernel) ?_
        exact kr _ _ _ d_Md_isUsed_29 rfl (Or.inr ⟨rfl, fun ⟨j, hj, hq⟩ => hs j (by omega) hq⟩)
      · refine lv_aload_n hx hb d_Md_isUsed_10 rfl (lv_at hl 1 rfl) ?_
        refine md_g_block C hP d_Md_isUsed_11 ?_
        refine lv_iload_n hx hb d_Md_isUsed_14 rfl (lv_at hl 0 rfl) ?_
        refine md_l_block C hP (by omega) d_Md_isUsed_15 ?_
        refine lv_iload_n hx hb d_Md_isUsed_16 rfl (lv_at hl 2 rfl) ?_
        refine pb_ne (tgt := 22) (by have := hen i (by omega); have := hbe i (by omega); omega) (by omega) hx hb d_Md_isUsed_17 (by decide) (fun c_2 => ?_) (fun c_2 => ?_)
        · refine lv_iinc (v := nI (i + 1)) (lv' := [(2, .int (nI (i + 1))), (0, .ref (a 0)), (1, .int (nI b))]) hx hb d_Md_isUsed_22 hl (k := 0) rfl (pb_i1 _) (by decide) rfl (fun ls hl => ?_)
          refine lv_goto (tgt := 2) hx hb d_Md_isUsed_25 (by decide) ?_
          exact ih (i + 1) _ (by omega) (by omega) (fun j hj => by rcases Nat.lt_succ_iff_lt_or_eq.mp hj with q | q; exact hs j q; subst q; rw [← hbe j (by omega)]; exact c_2) (lv_sub hl [0, 1, 2] rfl)
        · refine lv_iconst (v := nI 1) hx hb d_Md_isUsed_20 (by decide +kernel) ?_
          exact kr _ _ _ d_Md_isUsed_21 rfl (Or.inl ⟨rfl, ⟨i, by omega, by rw [← hbe i (by omega)]; exact c_2⟩⟩)
  exact loop2 (mn + 1) 0 _ (by omega) (by omega) (fun j hj => absurd hj (Nat.not_lt_zero j)) (lv_sub hl [0, 1, 2] rfl)
set_option maxHeartbeats 4000000 in
set_option maxRecDepth 100000 in
theorem c_Md_leastFree (l : Launch) (D : va_G) (a : Nat → Nat) (k : Nat → ClassId) (n : Nat) (op : Nat) (tn : Nat) (mn : Nat) (th : Nat) (fl : Nat) (wr : Nat) (bl : Nat → Nat) (fd : Nat → Nat) (wh : Nat → Nat) (bf : Nat → Nat) (M : Nat → Nat → Nat) (en : Nat → Nat) (hn64 : n ≤ 64) (hn4 : 4 ≤ n) (hmn : mn ≤ 40) (hbe : ∀ q, q < mn → bl q = en q) (hen : ∀ q, q < mn → en q < 64) : Met l y_Md_leastFree (pb_ws y_Md_leastFree b_Md_leastFree 2 (some .int)) (pb_rm 1 0 0) (pb_Pr D k [.ref (a 0)] (md_W a k n op tn mn th fl wr (pb_flat M) bl fd wh bf)) (vp_Si (fun r : Int32 => (∃ b, r = nI b ∧ pb_free n mn en b) ∨ (r = -1 ∧ pb_full n mn en))) 0 0 (fun _ => False) := by
  refine pb_mkR R_Md rfl (by decide) (Nat.le_of_ble_eq_true rfl) ?_
  intro p e R s m args below meth c Q ls C hP hl kr
  obtain ⟨hx, hb, hml, hown, hG, hkn, hR1, hR2⟩ := id C
  have hl : lv_has ls 2 [(0, .ref (a 0))] := hl
  refine lv_iconst (v := nI 3) hx hb d_Md_leastFree_0 (by decide +kernel) ?_
  refine lv_istore_n (lv' := [(1, .int (nI 3)), (0, .ref (a 0))]) hx hb d_Md_leastFree_1 rfl hl (by decide) rfl (fun ls hl => ?_)
  have loop2 : ∀ (fu : Nat) (i : Nat) (ls : Array Slot), (3 ≤ i) → (i ≤ n) → (n + 1 ≤ i + fu) → (∀ b', 3 ≤ b' → b' < i → pb_used mn en b') → lv_has ls 2 [(1, .int (nI i)), (0, .ref (a 0))] → W p l e R s m args below meth c s.heap [] 0 0 Q (F0 m 2 ls []) := by
    intro fu
    induction fu with
    | zero =>
      intro i ls h3 hi hn hs
      exfalso
      omega
    | succ fu ih =>
      intro i ls h3 hi hn hs hl
      refine lv_iload_n hx hb d_Md_leastFree_2 rfl (lv_at hl 0 rfl) ?_
      refine lv_aload_n hx hb d_Md_leastFree_3 rfl (lv_at hl 1 rfl) ?_
      refine md_g_blocks C hP d_Md_leastFree_4 ?_
      refine pb_ge (tgt := 26) (by omega) (by omega) hx hb d_Md_leastFree_7 (by decide) (fun c_1 => ?_) (fun c_1 => ?_)
      · refine lv_iconst (v := -1) hx hb d_Md_leastFree_26 (by decide +kernel) ?_
        exact kr _ _ _ d_Md_leastFree_27 rfl (Or.inr ⟨rfl, fun b' g3 gn => hs b' g3 (by omega)⟩)
      · refine lv_aload_n hx hb d_Md_leastFree_10 rfl (lv_at hl 1 rfl) ?_
        refine lv_iload_n hx hb d_Md_leastFree_11 rfl (lv_at hl 0 rfl) ?_
        refine pb_vR (As := [.int (nI i)]) (rest := []) C hP k_Md_isUsed m_362 (c_Md_isUsed l D a k n op tn mn th fl wr bl fd wh bf M en i hmn hbe hen (by omega)) rfl hl.1 0 2 rfl rfl rfl ⟨by decide, by decide⟩ ⟨Nat.zero_le _, Nat.zero_le _⟩ rfl (Nat.le_of_ble_eq_true rfl) d_Md_leastFree_12 (fun r12 h12 => ?_)
        rcases h12 with ⟨rfl, h12⟩ | ⟨rfl, h12⟩
        · refine pb_nz (tgt := 20) (by decide) hx hb d_Md_leastFree_15 (by decide) (fun _ => ?_) (fun c_2 => absurd c_2 (by decide))
          refine lv_iinc (v := nI (i + 1)) (lv' := [(1, .int (nI (i + 1))), (0, .ref (a 0))]) hx hb d_Md_leastFree_20 hl (k := 0) rfl (pb_i1 _) (by decide) rfl (fun ls hl => ?_)
          refine lv_goto (tgt := 2) hx hb d_Md_leastFree_23 (by decide) ?_
          exact ih (i + 1) _ (by omega) (by omega) (by omega) (fun j h3 hj => by rcases Nat.lt_succ_iff_lt_or_eq.mp hj with q | q; exact hs j h3 q; subst q; exact h12) (lv_sub hl [0, 1] rfl)
        · refine pb_nz (tgt := 20) (by decide) hx hb d_Md_leastFree_15 (by decide) (fun c_2 => absurd c_2 (by decide)) (fun _ => ?_)
          refine lv_iload_n hx hb d_Md_leastFree_18 rfl (lv_at hl 0 rfl) ?_
          exact kr _ _ _ d_Md_leastFree_19 rfl (Or.inl ⟨i, rfl, h3, by omega, h12, hs⟩)
  exact loop2 (n + 1) 3 _ (by omega) (by omega) (by omega) (fun j h3 hj => by omega) (lv_sub hl [0, 1] rfl)
set_option maxHeartbeats 4000000 in
set_option maxRecDepth 100000 in
theorem c_Md_nameOf (l : Launch) (D : va_G) (a : Nat → Nat) (k : Nat → ClassId) (n : Nat) (op : Nat) (tn : Nat) (mn : Nat) (th : Nat) (fl : Nat) (wr : Nat) (bl : Nat → Nat) (fd : Nat → Nat) (wh : Nat → Nat) (bf : Nat → Nat) (M : Nat → Nat → Nat) (en : Nat → Nat) (q : Nat) (hq : q < mn) (hmn : mn ≤ 40) (hbe : ∀ q, q < mn → bl q = en q) (hen : ∀ q, q < mn → en q < 64) : Met l y_Md_nameOf (pb_ws y_Md_nameOf b_Md_nameOf 2 (some .int)) (pb_rm 0 0 0) (pb_Pr D k [.ref (a 0), .int (nI q)] (md_W a k n op tn mn th fl wr (pb_flat M) bl fd wh bf)) (vp_Si (fun r : Int32 => r = nI (M (en q) 0 + 256 * M (en q) 1))) 0 0 (fun _ => False) := by
  refine pb_mkR R_Md rfl (by decide) (Nat.le_of_ble_eq_true rfl) ?_
  intro p e R s m args below meth c Q ls C hP hl kr
  obtain ⟨hx, hb, hml, hown, hG, hkn, hR1, hR2⟩ := id C
  have hl : lv_has ls 2 [(0, .ref (a 0)), (1, .int (nI q))] := hl
  have hq1 := hbe q hq
  have hq2 := hen q hq
  refine lv_aload_n hx hb d_Md_nameOf_0 rfl (lv_at hl 0 rfl) ?_
  refine md_g_store C hP d_Md_nameOf_1 ?_
  refine lv_bipush (v := nI 64) hx hb d_Md_nameOf_4 (by decide +kernel) ?_
  refine lv_aload_n hx hb d_Md_nameOf_6 rfl (lv_at hl 0 rfl) ?_
  refine md_g_block C hP d_Md_nameOf_7 ?_
  refine lv_iload_n hx hb d_Md_nameOf_10 rfl (lv_at hl 1 rfl) ?_
  refine md_l_block C hP (by omega) d_Md_nameOf_11 ?_
  refine pb_mul hx hb d_Md_nameOf_12 ?_
  refine md_lf (b := bl q) (i := 0) C hP (by omega) (by omega) (by omega) d_Md_nameOf_13 ?_
  refine lv_sipush (v := nI 256) hx hb d_Md_nameOf_14 (by decide +kernel) ?_
  refine lv_aload_n hx hb d_Md_nameOf_17 rfl (lv_at hl 0 rfl) ?_
  refine md_g_store C hP d_Md_nameOf_18 ?_
  refine lv_bipush (v := nI 64) hx hb d_Md_nameOf_21 (by decide +kernel) ?_
  refine lv_aload_n hx hb d_Md_nameOf_23 rfl (lv_at hl 0 rfl) ?_
  refine md_g_block C hP d_Md_nameOf_24 ?_
  refine lv_iload_n hx hb d_Md_nameOf_27 rfl (lv_at hl 1 rfl) ?_
  refine md_l_block C hP (by omega) d_Md_nameOf_28 ?_
  refine pb_mul hx hb d_Md_nameOf_29 ?_
  refine lv_iconst (v := nI 1) hx hb d_Md_nameOf_30 (by decide +kernel) ?_
  refine pb_add hx hb d_Md_nameOf_31 ?_
  refine md_lf (b := bl q) (i := 1) C hP (by omega) (by omega) (by omega) d_Md_nameOf_32 ?_
  refine pb_mul hx hb d_Md_nameOf_33 ?_
  refine pb_add hx hb d_Md_nameOf_34 ?_
  exact kr _ _ _ d_Md_nameOf_35 rfl (by rw [hq1])
set_option maxHeartbeats 4000000 in
set_option maxRecDepth 100000 in
theorem c_Md_longOf (l : Launch) (D : va_G) (a : Nat → Nat) (k : Nat → ClassId) (n : Nat) (op : Nat) (tn : Nat) (mn : Nat) (th : Nat) (fl : Nat) (wr : Nat) (bl : Nat → Nat) (fd : Nat → Nat) (wh : Nat → Nat) (bf : Nat → Nat) (M : Nat → Nat → Nat) (en : Nat → Nat) (q : Nat) (hq : q < mn) (hmn : mn ≤ 40) (hbe : ∀ q, q < mn → bl q = en q) (hen : ∀ q, q < mn → en q < 64) : Met l y_Md_longOf (pb_ws y_Md_longOf b_Md_longOf 2 (some .int)) (pb_rm 0 0 0) (pb_Pr D k [.ref (a 0), .int (nI q)] (md_W a k n op tn mn th fl wr (pb_flat M) bl fd wh bf)) (vp_Si (fun r : Int32 => r = nI (M (en q) 2))) 0 0 (fun _ => False) := by
  refine pb_mkR R_Md rfl (by decide) (Nat.le_of_ble_eq_true rfl) ?_
  intro p e R s m args below meth c Q ls C hP hl kr
  obtain ⟨hx, hb, hml, hown, hG, hkn, hR1, hR2⟩ := id C
  have hl : lv_has ls 2 [(0, .ref (a 0)), (1, .int (nI q))] := hl
  have hq1 := hbe q hq
  have hq2 := hen q hq
  refine lv_aload_n hx hb d_Md_longOf_0 rfl (lv_at hl 0 rfl) ?_
  refine md_g_store C hP d_Md_longOf_1 ?_
  refine lv_bipush (v := nI 64) hx hb d_Md_longOf_4 (by decide +kernel) ?_
  refine lv_aload_n hx hb d_Md_longOf_6 rfl (lv_at hl 0 rfl) ?_
  refine md_g_block C hP d_Md_longOf_7 ?_
  refine lv_iload_n hx hb d_Md_longOf_10 rfl (lv_at hl 1 rfl) ?_
  refine md_l_block C hP (by omega) d_Md_longOf_11 ?_
  refine pb_mul hx hb d_Md_longOf_12 ?_
  refine lv_iconst (v := nI 2) hx hb d_Md_longOf_13 (by decide +kernel) ?_
  refine pb_add hx hb d_Md_longOf_14 ?_
  refine md_lf (b := bl q) (i := 2) C hP (by omega) (by omega) (by omega) d_Md_longOf_15 ?_
  exact kr _ _ _ d_Md_longOf_16 rfl (by rw [hq1])
set_option maxHeartbeats 4000000 in
set_option maxRecDepth 100000 in
theorem c_Md_hasFed (l : Launch) (D : va_G) (a : Nat → Nat) (k : Nat → ClassId) (n : Nat) (op : Nat) (tn : Nat) (mn : Nat) (th : Nat) (fl : Nat) (wr : Nat) (bl : Nat → Nat) (fd : Nat → Nat) (wh : Nat → Nat) (bf : Nat → Nat) (M : Nat → Nat → Nat) (en : Nat → Nat) (q : Nat) (hq : q < mn) (hmn : mn ≤ 40) (hbe : ∀ q, q < mn → bl q = en q) (hen : ∀ q, q < mn → en q < 64) (hM : ∀ x j, M x j < 256) (hfs : fl ≤ 48) (hfd : ∀ j, fd j < 256) : Met l y_Md_hasFed (pb_ws y_Md_hasFed b_Md_hasFed 3 (some .boolean)) (pb_rm 1 0 0) (pb_Pr D k [.ref (a 0), .int (nI q)] (md_W a k n op tn mn th fl wr (pb_flat M) bl fd wh bf)) (vp_Si (fun r : Int32 => (r = nI 1 ∧ pb_same M fl fd (en q)) ∨ (r = nI 0 ∧ ¬ (pb_same M fl fd (en q))))) 0 0 (fun _ => False) := by
  refine pb_mkR R_Md rfl (by decide) (Nat.le_of_ble_eq_true rfl) ?_
  intro p e R s m args below meth c Q ls C hP hl kr
  obtain ⟨hx, hb, hml, hown, hG, hkn, hR1, hR2⟩ := id C
  have hl : lv_has ls 3 [(0, .ref (a 0)), (1, .int (nI q))] := hl
  have hq1 := hbe q hq
  have hq2 := hen q hq
  refine lv_aload_n hx hb d_Md_hasFed_0 rfl (lv_at hl 0 rfl) ?_
  refine lv_iload_n hx hb d_Md_hasFed_1 rfl (lv_at hl 1 rfl) ?_
  refine pb_vR (As := [.int (nI q)]) (rest := []) C hP k_Md_longOf m_354 (c_Md_longOf l D a k n op tn mn th fl wr bl fd wh bf M en q (by omega) hmn hbe hen) rfl hl.1 0 2 rfl rfl rfl ⟨by decide, by decide⟩ ⟨Nat.zero_le _, Nat.zero_le _⟩ rfl (Nat.le_of_ble_eq_true rfl) d_Md_hasFed_2 (fun r2 h2 => ?_)
  subst h2
  refine lv_aload_n hx hb d_Md_hasFed_5 rfl (lv_at hl 0 rfl) ?_
  refine md_g_fedLong C hP d_Md_hasFed_6 ?_
  refine pb_eq (tgt := 14) (by have := hM (en q) 2; omega) (by omega) hx hb d_Md_hasFed_9 (by decide) (fun c_1 => ?_) (fun c_1 => ?_)
  · refine lv_iconst (v := nI 0) hx hb d_Md_hasFed_14 (by decide +kernel) ?_
    refine lv_istore_n (lv' := [(2, .int (nI 0)), (0, .ref (a 0)), (1, .int (nI q))]) hx hb d_Md_hasFed_15 rfl hl (by decide) rfl (fun ls hl => ?_)
    have loop16 : ∀ (fu : Nat) (i : Nat) (ls : Array Slot), (i ≤ fl) → (fl + 1 ≤ i + fu) → (∀ j, j < i → M (en q) (3 + j) = fd j) → lv_has ls 3 [(2, .int (nI i)), (0, .ref (a 0)), (1, .int (nI q))] → W p l e R s m args below meth c s.heap [] 0 0 Q (F0 m 16 ls []) := by
      intro fu
      induction fu with
      | zero =>
        intro i ls hi hn hs
        exfalso
        omega
      | succ fu ih =>
        intro i ls hi hn hs hl
        refine lv_iload_n hx hb d_Md_hasFed_16 rfl (lv_at hl 0 rfl) ?_
        refine lv_aload_n hx hb d_Md_hasFed_17 rfl (lv_at hl 1 rfl) ?_
        refine md_g_fedLong C hP d_Md_hasFed_18 ?_
        refine pb_ge (tgt := 59) (by omega) (by omega) hx hb d_Md_hasFed_21 (by decide) (fun c_2 => ?_) (fun c_2 => ?_)
        · refine lv_iconst (v := nI 1) hx hb d_Md_hasFed_59 (by decide +kernel) ?_
          exact kr _ _ _ d_Md_hasFed_60 rfl (Or.inl ⟨rfl, ⟨c_1, fun j hj => hs j (by omega)⟩⟩)
        · refine lv_aload_n hx hb d_Md_hasFed_24 rfl (lv_at hl 1 rfl) ?_
          refine md_g_store C hP d_Md_hasFed_25 ?_
          refine lv_bipush (v := nI 64) hx hb d_Md_hasFed_28 (by decide +kernel) ?_
          refine lv_aload_n hx hb d_Md_hasFed_30 rfl (lv_at hl 1 rfl) ?_
          refine md_g_block C hP d_Md_hasFed_31 ?_
          refine lv_iload_n hx hb d_Md_hasFed_34 rfl (lv_at hl 2 rfl) ?_
          refine md_l_block C hP (by omega) d_Md_hasFed_35 ?_
          refine pb_mul hx hb d_Md_hasFed_36 ?_
          refine lv_iconst (v := nI 3) hx hb d_Md_hasFed_37 (by decide +kernel) ?_
          refine pb_add hx hb d_Md_hasFed_38 ?_
          refine lv_iload_n hx hb d_Md_hasFed_39 rfl (lv_at hl 0 rfl) ?_
          refine pb_add hx hb d_Md_hasFed_40 ?_
          refine md_lf (b := bl q) (i := 3 + i) C hP (by omega) (by omega) (by omega) d_Md_hasFed_41 ?_
          refine lv_aload_n hx hb d_Md_hasFed_42 rfl (lv_at hl 1 rfl) ?_
          refine md_g_fed C hP d_Md_hasFed_43 ?_
          refine lv_iload_n hx hb d_Md_hasFed_46 rfl (lv_at hl 0 rfl) ?_
          refine md_l_fed C hP (by omega) d_Md_hasFed_47 ?_
          refine pb_eq (tgt := 53) (by have := hM (bl q) (3 + i); omega) (by have := hfd i; omega) hx hb d_Md_hasFed_48 (by decide) (fun c_3 => ?_) (fun c_3 => ?_)
          · refine lv_iinc (v := nI (i + 1)) (lv' := [(2, .int (nI (i + 1))), (0, .ref (a 0)), (1, .int (nI q))]) hx hb d_Md_hasFed_53 hl (k := 0) rfl (pb_i1 _) (by decide) rfl (fun ls hl => ?_)
            refine lv_goto (tgt := 16) hx hb d_Md_hasFed_56 (by decide) ?_
            exact ih (i + 1) _ (by omega) (by omega) (fun j hj => by rcases Nat.lt_succ_iff_lt_or_eq.mp hj with z | z; exact hs j z; subst z; rw [← hq1]; exact c_3) (lv_sub hl [0, 1, 2] rfl)
          · refine lv_iconst (v := nI 0) hx hb d_Md_hasFed_51 (by decide +kernel) ?_
            exact kr _ _ _ d_Md_hasFed_52 rfl (Or.inr ⟨rfl, fun z => c_3 (by rw [hq1]; exact z.2 i (by omega))⟩)
    exact loop16 (fl + 1) 0 _ (by omega) (by omega) (fun j hj => absurd hj (Nat.not_lt_zero j)) (lv_sub hl [0, 1, 2] rfl)
  · refine lv_iconst (v := nI 0) hx hb d_Md_hasFed_12 (by decide +kernel) ?_
    exact kr _ _ _ d_Md_hasFed_13 rfl (Or.inr ⟨rfl, fun z => c_1 z.1⟩)
set_option maxHeartbeats 4000000 in
set_option maxRecDepth 100000 in
theorem c_Md_entryIsRight (l : Launch) (D : va_G) (a : Nat → Nat) (k : Nat → ClassId) (n : Nat) (op : Nat) (tn : Nat) (mn : Nat) (th : Nat) (fl : Nat) (wr : Nat) (bl : Nat → Nat) (fd : Nat → Nat) (wh : Nat → Nat) (bf : Nat → Nat) (M : Nat → Nat → Nat) (b : Nat) (hb64 : b < 64) (hM : ∀ x j, M x j < 256) : Met l y_Md_entryIsRight (pb_ws y_Md_entryIsRight b_Md_entryIsRight 3 (some .boolean)) (pb_rm 2 0 0) (pb_Pr D k [.ref (a 0), .int (nI b)] (md_W a k n op tn mn th fl wr (pb_flat M) bl fd wh bf)) (vp_Si (fun r : Int32 => (r = nI 1 ∧ pb_eok (M b)) ∨ (r = nI 0 ∧ ¬ (pb_eok (M b))))) 0 0 (fun _ => False) := by
  refine pb_mkR R_Md rfl (by decide) (Nat.le_of_ble_eq_true rfl) ?_
  intro p e R s m args below meth c Q ls C hP hl kr
  obtain ⟨hx, hb, hml, hown, hG, hkn, hR1, hR2⟩ := id C
  have hl : lv_has ls 3 [(0, .ref (a 0)), (1, .int (nI b))] := hl
  refine lv_aload_n hx hb d_Md_entryIsRight_0 rfl (lv_at hl 0 rfl) ?_
  refine md_g_store C hP d_Md_entryIsRight_1 ?_
  refine lv_bipush (v := nI 64) hx hb d_Md_entryIsRight_4 (by decide +kernel) ?_
  refine lv_iload_n hx hb d_Md_entryIsRight_6 rfl (lv_at hl 1 rfl) ?_
  refine pb_mul hx hb d_Md_entryIsRight_7 ?_
  refine lv_iconst (v := nI 2) hx hb d_Md_entryIsRight_8 (by decide +kernel) ?_
  refine pb_add hx hb d_Md_entryIsRight_9 ?_
  refine md_lf (b := b) (i := 2) C hP (by omega) (by omega) (by omega) d_Md_entryIsRight_10 ?_
  refine lv_istore_n (lv' := [(2, .int (nI (M b 2))), (0, .ref (a 0)), (1, .int (nI b))]) hx hb d_Md_entryIsRight_11 rfl hl (by decide) rfl (fun ls hl => ?_)
  refine lv_aload_n hx hb d_Md_entryIsRight_12 rfl (lv_at hl 1 rfl) ?_
  refine lv_iload_n hx hb d_Md_entryIsRight_13 rfl (lv_at hl 2 rfl) ?_
  refine pb_vR (As := [.int (nI b)]) (rest := []) C hP k_Md_isRight m_402 (c_Md_isRight l D a k n op tn mn th fl wr bl fd wh bf M b (by omega) hM) rfl hl.1 0 2 rfl rfl rfl ⟨by decide, by decide⟩ ⟨Nat.zero_le _, Nat.zero_le _⟩ rfl (Nat.le_of_ble_eq_true rfl) d_Md_entryIsRight_14 (fun r14 h14 => ?_)
  rcases h14 with ⟨rfl, h14⟩ | ⟨rfl, h14⟩
  · refine pb_z (tgt := 35) (by decide) hx hb d_Md_entryIsRight_17 (by decide) (fun c_1 => absurd c_1 (by decide)) (fun _ => ?_)
    refine lv_iload_n hx hb d_Md_entryIsRight_20 rfl (lv_at hl 0 rfl) ?_
    refine lv_iconst (v := nI 1) hx hb d_Md_entryIsRight_21 (by decide +kernel) ?_
    refine pb_lt (tgt := 35) (by have := hM b 2; omega) (by omega) hx hb d_Md_entryIsRight_22 (by decide) (fun c_2 => ?_) (fun c_2 => ?_)
    · refine lv_iconst (v := nI 0) hx hb d_Md_entryIsRight_35 (by decide +kernel) ?_
      exact kr _ _ _ d_Md_entryIsRight_36 rfl (Or.inr ⟨rfl, fun z => absurd z.2.1 (by omega)⟩)
    · refine lv_iload_n hx hb d_Md_entryIsRight_25 rfl (lv_at hl 0 rfl) ?_
      refine lv_bipush (v := nI 48) hx hb d_Md_entryIsRight_26 (by decide +kernel) ?_
      refine pb_gt (tgt := 35) (by have := hM b 2; omega) (by omega) hx hb d_Md_entryIsRight_28 (by decide) (fun c_3 => ?_) (fun c_3 => ?_)
      · refine lv_iconst (v := nI 0) hx hb d_Md_entryIsRight_35 (by decide +kernel) ?_
        exact kr _ _ _ d_Md_entryIsRight_36 rfl (Or.inr ⟨rfl, fun z => absurd z.2.2 (by omega)⟩)
      · refine lv_iconst (v := nI 1) hx hb d_Md_entryIsRight_31 (by decide +kernel) ?_
        refine lv_goto (tgt := 36) hx hb d_Md_entryIsRight_32 (by decide) ?_
        exact kr _ _ _ d_Md_entryIsRight_36 rfl (Or.inl ⟨rfl, ⟨h14, by omega, by omega⟩⟩)
  · refine pb_z (tgt := 35) (by decide) hx hb d_Md_entryIsRight_17 (by decide) (fun _ => ?_) (fun c_1 => absurd c_1 (by decide))
    refine lv_iconst (v := nI 0) hx hb d_Md_entryIsRight_35 (by decide +kernel) ?_
    exact kr _ _ _ d_Md_entryIsRight_36 rfl (Or.inr ⟨rfl, fun z => h14 z.1⟩)
set_option maxHeartbeats 4000000 in
set_option maxRecDepth 100000 in
theorem c_Md_rootIsRight (l : Launch) (D : va_G) (a : Nat → Nat) (k : Nat → ClassId) (n : Nat) (op : Nat) (tn : Nat) (mn : Nat) (th : Nat) (fl : Nat) (wr : Nat) (bl : Nat → Nat) (fd : Nat → Nat) (wh : Nat → Nat) (bf : Nat → Nat) (M : Nat → Nat → Nat) (b : Nat) (hb64 : b < 64) (hM : ∀ x j, M x j < 256) (hn64 : n ≤ 64) : Met l y_Md_rootIsRight (pb_ws y_Md_rootIsRight b_Md_rootIsRight 6 (some .boolean)) (pb_rm 2 0 0) (pb_Pr D k [.ref (a 0), .int (nI b)] (md_W a k n op tn mn th fl wr (pb_flat M) bl fd wh bf)) (vp_Si (fun r : Int32 => (r = nI 1 ∧ pb_right (M b) ∧ pb_rok n (M b)) ∨ (r = nI 0 ∧ ¬ (pb_right (M b) ∧ pb_rok n (M b))))) 0 0 (fun _ => False) := by
  refine pb_mkR R_Md rfl (by decide) (Nat.le_of_ble_eq_true rfl) ?_
  intro p e R s m args below meth c Q ls C hP hl kr
  obtain ⟨hx, hb, hml, hown, hG, hkn, hR1, hR2⟩ := id C
  have hl : lv_has ls 6 [(0, .ref (a 0)), (1, .int (nI b))] := hl
  have hM0 := hM b 0
  refine lv_aload_n hx hb d_Md_rootIsRight_0 rfl (lv_at hl 0 rfl) ?_
  refine md_g_store C hP d_Md_rootIsRight_1 ?_
  refine lv_bipush (v := nI 64) hx hb d_Md_rootIsRight_4 (by decide +kernel) ?_
  refine lv_iload_n hx hb d_Md_rootIsRight_6 rfl (lv_at hl 1 rfl) ?_
  refine pb_mul hx hb d_Md_rootIsRight_7 ?_
  refine md_lf (b := b) (i := 0) C hP (by omega) (by omega) (by omega) d_Md_rootIsRight_8 ?_
  refine lv_istore_n (lv' := [(2, .int (nI (M b 0))), (0, .ref (a 0)), (1, .int (nI b))]) hx hb d_Md_rootIsRight_9 rfl hl (by decide) rfl (fun ls hl => ?_)
  refine lv_aload_n hx hb d_Md_rootIsRight_10 rfl (lv_at hl 1 rfl) ?_
  refine lv_iload_n hx hb d_Md_rootIsRight_11 rfl (lv_at hl 2 rfl) ?_
  refine pb_vR (As := [.int (nI b)]) (rest := []) C hP k_Md_isRight m_402 (c_Md_isRight l D a k n op tn mn th fl wr bl fd wh bf M b (by omega) hM) rfl hl.1 0 2 rfl rfl rfl ⟨by decide, by decide⟩ ⟨Nat.zero_le _, Nat.zero_le _⟩ rfl (Nat.le_of_ble_eq_true rfl) d_Md_rootIsRight_12 (fun r12 h12 => ?_)
  rcases h12 with ⟨rfl, h12⟩ | ⟨rfl, h12⟩
  · refine pb_z (tgt := 24) (by decide) hx hb d_Md_rootIsRight_15 (by decide) (fun c_1 => absurd c_1 (by decide)) (fun _ => ?_)
    refine lv_iload_n hx hb d_Md_rootIsRight_18 rfl (lv_at hl 0 rfl) ?_
    refine lv_bipush (v := nI 40) hx hb d_Md_rootIsRight_19 (by decide +kernel) ?_
    refine pb_le (tgt := 26) (by omega) (by omega) hx hb d_Md_rootIsRight_21 (by decide) (fun c_2 => ?_) (fun c_2 => ?_)
    · refine lv_iconst (v := nI 1) hx hb d_Md_rootIsRight_26 (by decide +kernel) ?_
      refine lv_istore_n (lv' := [(3, .int (nI 1)), (2, .int (nI (M b 0))), (0, .ref (a 0)), (1, .int (nI b))]) hx hb d_Md_rootIsRight_27 rfl hl (by decide) rfl (fun ls hl => ?_)
      have loop28 : ∀ (fu : Nat) (kk : Nat) (ls : Array Slot), (1 ≤ kk) → (kk ≤ M b 0 + 1) → (M b 0 + 2 ≤ kk + fu) → (∀ e, e + 1 < kk → 3 ≤ M b (1 + e) ∧ M b (1 + e) < n ∧ ∀ e', e' < e → M b (1 + e') ≠ M b (1 + e)) → lv_has ls 6 [(3, .int (nI kk)), (2, .int (nI (M b 0))), (0, .ref (a 0)), (1, .int (nI b))] → W p l e R s m args below meth c s.heap [] 0 0 Q (F0 m 28 ls []) := by
        intro fu
        induction fu with
        | zero =>
          intro kk ls h1 h2 hn hR
          exfalso
          omega
        | succ fu ih =>
          intro kk ls h1 h2 hn hR hl
          refine lv_iload_n hx hb d_Md_rootIsRight_28 rfl (lv_at hl 0 rfl) ?_
          refine lv_iload_n hx hb d_Md_rootIsRight_29 rfl (lv_at hl 1 rfl) ?_
          refine pb_gt (tgt := 103) (by omega) (by omega) hx hb d_Md_rootIsRight_30 (by decide) (fun c_3 => ?_) (fun c_3 => ?_)
          · refine lv_iconst (v := nI 1) hx hb d_Md_rootIsRight_103 (by decide +kernel) ?_
            exact kr _ _ _ d_Md_rootIsRight_104 rfl (Or.inl ⟨rfl, ⟨h12, by omega, fun z hz => hR z (by omega)⟩⟩)
          · refine lv_aload_n hx hb d_Md_rootIsRight_33 rfl (lv_at hl 2 rfl) ?_
            refine md_g_store C hP d_Md_rootIsRight_34 ?_
            refine lv_bipush (v := nI 64) hx hb d_Md_rootIsRight_37 (by decide +kernel) ?_
            refine lv_iload_n hx hb d_Md_rootIsRight_39 rfl (lv_at hl 3 rfl) ?_
            refine pb_mul hx hb d_Md_rootIsRight_40 ?_
            refine lv_iload_n hx hb d_Md_rootIsRight_41 rfl (lv_at hl 0 rfl) ?_
            refine pb_add hx hb d_Md_rootIsRight_42 ?_
            refine md_lf (b := b) (i := kk) C hP (by omega) (by omega) (by omega) d_Md_rootIsRight_43 ?_
            refine lv_istore (lv' := [(4, .int (nI (M b kk))), (3, .int (nI kk)), (2, .int (nI (M b 0))), (0, .ref (a 0)), (1, .int (nI b))]) hx hb d_Md_rootIsRight_44 hl (by decide) rfl (fun ls hl => ?_)
            refine lv_iload hx hb d_Md_rootIsRight_46 (lv_at hl 0 rfl) ?_
            refine lv_iconst (v := nI 3) hx hb d_Md_rootIsRight_48 (by decide +kernel) ?_
            refine pb_lt (tgt := 61) (by have := hM b kk; omega) (by omega) hx hb d_Md_rootIsRight_49 (by decide) (fun c_4 => ?_) (fun c_4 => ?_)
            · refine lv_iconst (v := nI 0) hx hb d_Md_rootIsRight_61 (by decide +kernel) ?_
              exact kr _ _ _ d_Md_rootIsRight_62 rfl (Or.inr ⟨rfl, fun z => absurd (z.2.2 (kk - 1) (by omega)).1 (by rw [show 1 + (kk - 1) = kk by omega]; omega)⟩)
            · refine lv_iload hx hb d_Md_rootIsRight_52 (lv_at hl 0 rfl) ?_
              refine lv_aload_n hx hb d_Md_rootIsRight_54 rfl (lv_at hl 3 rfl) ?_
              refine md_g_blocks C hP d_Md_rootIsRight_55 ?_
              refine pb_lt (tgt := 63) (by have := hM b kk; omega) (by omega) hx hb d_Md_rootIsRight_58 (by decide) (fun c_5 => ?_) (fun c_5 => ?_)
              · refine lv_iconst (v := nI 1) hx hb d_Md_rootIsRight_63 (by decide +kernel) ?_
                refine lv_istore (lv' := [(5, .int (nI 1)), (4, .int (nI (M b kk))), (3, .int (nI kk)), (2, .int (nI (M b 0))), (0, .ref (a 0)), (1, .int (nI b))]) hx hb d_Md_rootIsRight_64 hl (by decide) rfl (fun ls hl => ?_)
                have loop66 : ∀ (fv : Nat) (j : Nat) (ls : Array Slot), (1 ≤ j) → (j ≤ kk) → (kk + 1 ≤ j + fv) → (∀ e', e' + 1 < j → M b (1 + e') ≠ M b kk) → lv_has ls 6 [(5, .int (nI j)), (4, .int (nI (M b kk))), (3, .int (nI kk)), (2, .int (nI (M b 0))), (0, .ref (a 0)), (1, .int (nI b))] → W p l e R s m args below meth c s.heap [] 0 0 Q (F0 m 66 ls []) := by
                  intro fv
                  induction fv with
                  | zero =>
                    intro j ls g1 g2 gn hJ
                    exfalso
                    omega
                  | succ fv ih2 =>
                    intro j ls g1 g2 gn hJ hl
                    refine lv_iload hx hb d_Md_rootIsRight_66 (lv_at hl 0 rfl) ?_
                    refine lv_iload_n hx hb d_Md_rootIsRight_68 rfl (lv_at hl 2 rfl) ?_
                    refine pb_ge (tgt := 97) (by omega) (by omega) hx hb d_Md_rootIsRight_69 (by decide) (fun c_6 => ?_) (fun c_6 => ?_)
                    · refine lv_iinc (v := nI (kk + 1)) (lv' := [(3, .int (nI (kk + 1))), (5, .int (nI j)), (4, .int (nI (M b kk))), (2, .int (nI (M b 0))), (0, .ref (a 0)), (1, .int (nI b))]) hx hb d_Md_rootIsRight_97 hl (k := 2) rfl (pb_i1 _) (by decide) rfl (fun ls hl => ?_)
                      refine lv_goto (tgt := 28) hx hb d_Md_rootIsRight_100 (by decide) ?_
                      exact ih (kk + 1) _ (by omega) (by omega) (by omega) (fun z hz => by
                            rcases Nat.lt_or_ge (z + 1) kk with g | g
                            · exact hR z g
                            · obtain rfl : kk = 1 + z := by omega
                              exact ⟨c_4, c_5, fun e2 he2 => hJ e2 (by omega)⟩) (lv_sub hl [0, 3, 4, 5] rfl)
                    · refine lv_aload_n hx hb d_Md_rootIsRight_72 rfl (lv_at hl 4 rfl) ?_
                      refine md_g_store C hP d_Md_rootIsRight_73 ?_
                      refine lv_bipush (v := nI 64) hx hb d_Md_rootIsRight_76 (by decide +kernel) ?_
                      refine lv_iload_n hx hb d_Md_rootIsRight_78 rfl (lv_at hl 5 rfl) ?_
                      refine pb_mul hx hb d_Md_rootIsRight_79 ?_
                      refine lv_iload hx hb d_Md_rootIsRight_80 (lv_at hl 0 rfl) ?_
                      refine pb_add hx hb d_Md_rootIsRight_82 ?_
                      refine md_lf (b := b) (i := j) C hP (by omega) (by omega) (by omega) d_Md_rootIsRight_83 ?_
                      refine lv_iload hx hb d_Md_rootIsRight_84 (lv_at hl 1 rfl) ?_
                      refine pb_ne (tgt := 91) (by have := hM b j; omega) (by have := hM b kk; omega) hx hb d_Md_rootIsRight_86 (by decide) (fun c_7 => ?_) (fun c_7 => ?_)
                      · refine lv_iinc (v := nI (j + 1)) (lv' := [(5, .int (nI (j + 1))), (4, .int (nI (M b kk))), (3, .int (nI kk)), (2, .int (nI (M b 0))), (0, .ref (a 0)), (1, .int (nI b))]) hx hb d_Md_rootIsRight_91 hl (k := 0) rfl (pb_i1 _) (by decide) rfl (fun ls hl => ?_)
                        refine lv_goto (tgt := 66) hx hb d_Md_rootIsRight_94 (by decide) ?_
                        exact ih2 (j + 1) _ (by omega) (by omega) (by omega) (fun z hz => by
                              rcases Nat.lt_or_ge (z + 1) j with g | g
                              · exact hJ z g
                              · obtain rfl : j = 1 + z := by omega
                                exact c_7) (lv_sub hl [0, 1, 2, 3, 4, 5] rfl)
                      · refine lv_iconst (v := nI 0) hx hb d_Md_rootIsRight_89 (by decide +kernel) ?_
                        exact kr _ _ _ d_Md_rootIsRight_90 rfl (Or.inr ⟨rfl, fun z => (z.2.2 (kk - 1) (by omega)).2.2 (j - 1) (by omega) (by rw [show 1 + (kk - 1) = kk by omega, show 1 + (j - 1) = j by omega]; exact c_7)⟩)
                exact loop66 kk 1 _ (by omega) (by omega) (by omega) (fun z hz => by omega) (lv_sub hl [0, 1, 2, 3, 4, 5] rfl)
              · refine lv_iconst (v := nI 0) hx hb d_Md_rootIsRight_61 (by decide +kernel) ?_
                exact kr _ _ _ d_Md_rootIsRight_62 rfl (Or.inr ⟨rfl, fun z => absurd (z.2.2 (kk - 1) (by omega)).2.1 (by rw [show 1 + (kk - 1) = kk by omega]; omega)⟩)
      exact loop28 (M b 0 + 1) 1 _ (by omega) (by omega) (by omega) (fun z hz => by omega) (lv_sub hl [0, 1, 2, 3] rfl)
    · refine lv_iconst (v := nI 0) hx hb d_Md_rootIsRight_24 (by decide +kernel) ?_
      exact kr _ _ _ d_Md_rootIsRight_25 rfl (Or.inr ⟨rfl, fun z => absurd z.2.1 (by omega)⟩)
  · refine pb_z (tgt := 24) (by decide) hx hb d_Md_rootIsRight_15 (by decide) (fun _ => ?_) (fun c_1 => absurd c_1 (by decide))
    refine lv_iconst (v := nI 0) hx hb d_Md_rootIsRight_24 (by decide +kernel) ?_
    exact kr _ _ _ d_Md_rootIsRight_25 rfl (Or.inr ⟨rfl, fun z => h12 z.1⟩)
set_option maxHeartbeats 4000000 in
set_option maxRecDepth 100000 in
theorem c_Md_isByte (l : Launch) (D : va_G) (a : Nat → Nat) (k : Nat → ClassId) (n : Nat) (op : Nat) (tn : Nat) (mn : Nat) (th : Nat) (fl : Nat) (wr : Nat) (bl : Nat → Nat) (fd : Nat → Nat) (wh : Nat → Nat) (bf : Nat → Nat) (M : Nat → Nat → Nat) (x y : Int32) (hn64 : n ≤ 64) : Met l y_Md_isByte (pb_ws y_Md_isByte b_Md_isByte 3 (some .boolean)) (pb_rm 0 0 0) (pb_Pr D k [.ref (a 0), .int x, .int y] (md_W a k n op tn mn th fl wr (pb_flat M) bl fd wh bf)) (vp_Si (fun r : Int32 => (r = nI 1 ∧ ∃ b i, pb_isb n x y b i) ∨ (r = nI 0 ∧ pb_nob n x y))) 0 0 (fun _ => False) := by
  refine pb_mkR R_Md rfl (by decide) (Nat.le_of_ble_eq_true rfl) ?_
  intro p e R s m args below meth c Q ls C hP hl kr
  obtain ⟨hx, hb, hml, hown, hG, hkn, hR1, hR2⟩ := id C
  have hl : lv_has ls 3 [(0, .ref (a 0)), (1, .int x), (2, .int y)] := hl
  refine lv_iload_n hx hb d_Md_isByte_0 rfl (lv_at hl 1 rfl) ?_
  refine lv_if_lt (tgt := 26) hx hb d_Md_isByte_1 (by decide) (fun c_1 => ?_) (fun c_1 => ?_)
  · refine lv_iconst (v := nI 0) hx hb d_Md_isByte_26 (by decide +kernel) ?_
    exact kr _ _ _ d_Md_isByte_27 rfl (Or.inr ⟨rfl, Or.inl c_1⟩)
  · refine lv_iload_n hx hb d_Md_isByte_4 rfl (lv_at hl 1 rfl) ?_
    refine lv_aload_n hx hb d_Md_isByte_5 rfl (lv_at hl 0 rfl) ?_
    refine md_g_blocks C hP d_Md_isByte_6 ?_
    refine lv_icmp_ge (tgt := 26) hx hb d_Md_isByte_9 (by decide) (fun c_2 => ?_) (fun c_2 => ?_)
    · refine lv_iconst (v := nI 0) hx hb d_Md_isByte_26 (by decide +kernel) ?_
      exact kr _ _ _ d_Md_isByte_27 rfl (Or.inr ⟨rfl, Or.inr (Or.inl c_2)⟩)
    · refine lv_iload_n hx hb d_Md_isByte_12 rfl (lv_at hl 2 rfl) ?_
      refine lv_if_lt (tgt := 26) hx hb d_Md_isByte_13 (by decide) (fun c_3 => ?_) (fun c_3 => ?_)
      · refine lv_iconst (v := nI 0) hx hb d_Md_isByte_26 (by decide +kernel) ?_
        exact kr _ _ _ d_Md_isByte_27 rfl (Or.inr ⟨rfl, Or.inr (Or.inr (Or.inl c_3))⟩)
      · refine lv_iload_n hx hb d_Md_isByte_16 rfl (lv_at hl 2 rfl) ?_
        refine lv_bipush (v := nI 64) hx hb d_Md_isByte_17 (by decide +kernel) ?_
        refine lv_icmp_ge (tgt := 26) hx hb d_Md_isByte_19 (by decide) (fun c_4 => ?_) (fun c_4 => ?_)
        · refine lv_iconst (v := nI 0) hx hb d_Md_isByte_26 (by decide +kernel) ?_
          exact kr _ _ _ d_Md_isByte_27 rfl (Or.inr ⟨rfl, Or.inr (Or.inr (Or.inr c_4))⟩)
        · refine lv_iconst (v := nI 1) hx hb d_Md_isByte_22 (by decide +kernel) ?_
          refine lv_goto (tgt := 27) hx hb d_Md_isByte_23 (by decide) ?_
          exact kr _ _ _ d_Md_isByte_27 rfl (by
            obtain ⟨b, hb, rfl⟩ := pb_num_lt (by omega) c_1 (Int32.not_le.mp c_2)
            obtain ⟨i, hi, rfl⟩ := pb_num_lt (by decide) c_3 (Int32.not_le.mp c_4)
            exact Or.inl ⟨rfl, b, i, hb, hi, rfl, rfl⟩)
end
section
-- ===== contracts of the reference's calls (by gen/m7.py) =====
set_option maxHeartbeats 4000000 in
set_option maxRecDepth 100000 in
theorem c_Md_free (l : Launch) (D : va_G) (a : Nat → Nat) (k : Nat → ClassId) (n : Nat) (op : Nat) (tn : Nat) (mn : Nat) (th : Nat) (fl : Nat) (wr : Nat) (bl : Nat → Nat) (fd : Nat → Nat) (wh : Nat → Nat) (bf : Nat → Nat) (M : Nat → Nat → Nat) (en lb lp lw : Nat → Nat) (sz0 : Nat) (hn64 : n ≤ 64) (hn4 : 4 ≤ n) (hM : ∀ x j, M x j < 256) (hop : op ≤ 1) (ho : op = 1 → (∀ q, q < mn → bl q = en q) ∧ (∀ q, q < wr → wh q = 64 * lb q + lp q ∧ bf q = lw q) ∧ pb_inv n tn mn wr en lb lp lw) : Met l y_Md_free (pb_ws y_Md_free b_Md_free 1 (some .int)) (pb_rm 0 0 0) (pb_P D k [.ref (a 0)] (md_W a k n op tn mn th fl wr (pb_flat M) bl fd wh bf) sz0) (pb_QI D (md_W a k n op tn mn th fl wr (pb_flat M) bl fd wh bf) sz0 (fun (r : Int32) (u : Unit) => (op = 0 ∧ r = -1) ∨ (op = 1 ∧ r = nI n - nI 3 - nI mn)) (fun (u : Unit) => md_W a k n op tn mn 0 fl wr (pb_flat M) bl fd wh bf)) 0 0 (va_A (md_W a k n op tn mn th fl wr (pb_flat M) bl fd wh bf) sz0) := by
  refine pb_mkI R_Md rfl (by decide) (Nat.le_of_ble_eq_true rfl) ?_
  intro p e R s m args below meth c Q A ls C hRc hA hw hl kr
  obtain ⟨H, hH⟩ : ∃ H : Heap, H = s.heap := ⟨_, rfl⟩
  obtain ⟨locs, hL⟩ : ∃ L : List Loc, L = [] := ⟨_, rfl⟩
  have hw : pb_W D A s.heap (md_W a k n op tn mn th fl wr (pb_flat M) bl fd wh bf) H locs := by rw [hH, hL]; exact hw
  rw [show W p l e R s m args below meth c s.heap [] 0 0 Q (F0 m 0 ls []) = W p l e R s m args below meth c H locs 0 0 Q (F0 m 0 ls []) by rw [hH, hL]]
  clear hH hL
  obtain ⟨hx, hb, hml, hown, hG, hkn, hR1, hR2⟩ := id C
  have hl : lv_has ls 1 [(0, .ref (a 0))] := hl
  refine lv_aload_n hx hb d_Md_free_0 rfl (lv_at hl 0 rfl) ?_
  refine lv_iconst (v := nI 0) hx hb d_Md_free_1 (by decide +kernel) ?_
  refine md_p_thrown C hw d_Md_free_2 (fun H locs hw => ?_)
  refine lv_aload_n hx hb d_Md_free_5 rfl (lv_at hl 0 rfl) ?_
  refine md_g_open C hw.1 d_Md_free_6 ?_
  refine pb_z (tgt := 26) (by omega) hx hb d_Md_free_9 (by decide) (fun c_1 => ?_) (fun c_1 => ?_)
  · refine lv_iconst (v := -1) hx hb d_Md_free_26 (by decide +kernel) ?_
    exact kr _ _ _ _ _ () d_Md_free_27 rfl hw (Or.inl ⟨c_1, rfl⟩)
  · obtain ⟨hbe, hlg, ht, hmn, hen0, hsz, hlog⟩ := ho (by omega)
    have hen : ∀ q, q < mn → en q < 64 := fun q h => by have := hen0 q h; omega
    have hop1 : op = 1 := by omega
    refine lv_aload_n hx hb d_Md_free_12 rfl (lv_at hl 0 rfl) ?_
    refine md_g_blocks C hw.1 d_Md_free_13 ?_
    refine lv_iconst (v := nI 3) hx hb d_Md_free_16 (by decide +kernel) ?_
    refine lv_isub hx hb d_Md_free_17 ?_
    refine lv_aload_n hx hb d_Md_free_18 rfl (lv_at hl 0 rfl) ?_
    refine md_g_entries C hw.1 d_Md_free_19 ?_
    refine lv_isub hx hb d_Md_free_22 ?_
    refine lv_goto (tgt := 27) hx hb d_Md_free_23 (by decide) ?_
    exact kr _ _ _ _ _ () d_Md_free_27 rfl hw (Or.inr ⟨hop1, rfl⟩)
set_option maxHeartbeats 4000000 in
set_option maxRecDepth 100000 in
theorem c_Md_root (l : Launch) (D : va_G) (a : Nat → Nat) (k : Nat → ClassId) (n : Nat) (op : Nat) (tn : Nat) (mn : Nat) (th : Nat) (fl : Nat) (wr : Nat) (bl : Nat → Nat) (fd : Nat → Nat) (wh : Nat → Nat) (bf : Nat → Nat) (M : Nat → Nat → Nat) (en lb lp lw : Nat → Nat) (sz0 : Nat) (hn64 : n ≤ 64) (hn4 : 4 ≤ n) (hM : ∀ x j, M x j < 256) (hop : op ≤ 1) (ho : op = 1 → (∀ q, q < mn → bl q = en q) ∧ (∀ q, q < wr → wh q = 64 * lb q + lp q ∧ bf q = lw q) ∧ pb_inv n tn mn wr en lb lp lw) : Met l y_Md_root (pb_ws y_Md_root b_Md_root 1 (some .int)) (pb_rm 0 0 0) (pb_P D k [.ref (a 0)] (md_W a k n op tn mn th fl wr (pb_flat M) bl fd wh bf) sz0) (pb_QI D (md_W a k n op tn mn th fl wr (pb_flat M) bl fd wh bf) sz0 (fun (r : Int32) (u : Unit) => (op = 0 ∧ r = -1) ∨ (op = 1 ∧ r = nI tn)) (fun (u : Unit) => md_W a k n op tn mn 0 fl wr (pb_flat M) bl fd wh bf)) 0 0 (va_A (md_W a k n op tn mn th fl wr (pb_flat M) bl fd wh bf) sz0) := by
  refine pb_mkI R_Md rfl (by decide) (Nat.le_of_ble_eq_true rfl) ?_
  intro p e R s m args below meth c Q A ls C hRc hA hw hl kr
  obtain ⟨H, hH⟩ : ∃ H : Heap, H = s.heap := ⟨_, rfl⟩
  obtain ⟨locs, hL⟩ : ∃ L : List Loc, L = [] := ⟨_, rfl⟩
  have hw : pb_W D A s.heap (md_W a k n op tn mn th fl wr (pb_flat M) bl fd wh bf) H locs := by rw [hH, hL]; exact hw
  rw [show W p l e R s m args below meth c s.heap [] 0 0 Q (F0 m 0 ls []) = W p l e R s m args below meth c H locs 0 0 Q (F0 m 0 ls []) by rw [hH, hL]]
  clear hH hL
  obtain ⟨hx, hb, hml, hown, hG, hkn, hR1, hR2⟩ := id C
  have hl : lv_has ls 1 [(0, .ref (a 0))] := hl
  refine lv_aload_n hx hb d_Md_root_0 rfl (lv_at hl 0 rfl) ?_
  refine lv_iconst (v := nI 0) hx hb d_Md_root_1 (by decide +kernel) ?_
  refine md_p_thrown C hw d_Md_root_2 (fun H locs hw => ?_)
  refine lv_aload_n hx hb d_Md_root_5 rfl (lv_at hl 0 rfl) ?_
  refine md_g_open C hw.1 d_Md_root_6 ?_
  refine pb_z (tgt := 19) (by omega) hx hb d_Md_root_9 (by decide) (fun c_1 => ?_) (fun c_1 => ?_)
  · refine lv_iconst (v := -1) hx hb d_Md_root_19 (by decide +kernel) ?_
    exact kr _ _ _ _ _ () d_Md_root_20 rfl hw (Or.inl ⟨c_1, rfl⟩)
  · obtain ⟨hbe, hlg, ht, hmn, hen0, hsz, hlog⟩ := ho (by omega)
    have hen : ∀ q, q < mn → en q < 64 := fun q h => by have := hen0 q h; omega
    have hop1 : op = 1 := by omega
    refine lv_aload_n hx hb d_Md_root_12 rfl (lv_at hl 0 rfl) ?_
    refine md_g_turn C hw.1 d_Md_root_13 ?_
    refine lv_goto (tgt := 20) hx hb d_Md_root_16 (by decide) ?_
    exact kr _ _ _ _ _ () d_Md_root_20 rfl hw (Or.inr ⟨hop1, rfl⟩)
set_option maxHeartbeats 4000000 in
set_option maxRecDepth 100000 in
theorem c_Md_feed (l : Launch) (D : va_G) (a : Nat → Nat) (k : Nat → ClassId) (n : Nat) (op : Nat) (tn : Nat) (mn : Nat) (th : Nat) (fl : Nat) (wr : Nat) (bl : Nat → Nat) (fd : Nat → Nat) (wh : Nat → Nat) (bf : Nat → Nat) (M : Nat → Nat → Nat) (x : Int32) (sz0 : Nat) (hfs : fl ≤ 48) : Met l y_Md_feed (pb_ws y_Md_feed b_Md_feed 2 (some .boolean)) (pb_rm 0 0 0) (pb_P D k [.ref (a 0), .int x] (md_W a k n op tn mn th fl wr (pb_flat M) bl fd wh bf) sz0) (pb_QI D (md_W a k n op tn mn th fl wr (pb_flat M) bl fd wh bf) sz0 (fun (r : Int32) (u : Nat × Nat) => pb_feed fl x r u) (fun (u : Nat × Nat) => if u.1 = 1 then md_W a k n op tn mn 0 (fl + 1) wr (pb_flat M) bl (va_up fd fl u.2) wh bf else md_W a k n op tn mn 0 fl wr (pb_flat M) bl fd wh bf)) 0 0 (va_A (md_W a k n op tn mn th fl wr (pb_flat M) bl fd wh bf) sz0) := by
  refine pb_mkI R_Md rfl (by decide) (Nat.le_of_ble_eq_true rfl) ?_
  intro p e R s m args below meth c Q A ls C hRc hA hw hl kr
  obtain ⟨H, hH⟩ : ∃ H : Heap, H = s.heap := ⟨_, rfl⟩
  obtain ⟨locs, hL⟩ : ∃ L : List Loc, L = [] := ⟨_, rfl⟩
  have hw : pb_W D A s.heap (md_W a k n op tn mn th fl wr (pb_flat M) bl fd wh bf) H locs := by rw [hH, hL]; exact hw
  rw [show W p l e R s m args below meth c s.heap [] 0 0 Q (F0 m 0 ls []) = W p l e R s m args below meth c H locs 0 0 Q (F0 m 0 ls []) by rw [hH, hL]]
  clear hH hL
  obtain ⟨hx, hb, hml, hown, hG, hkn, hR1, hR2⟩ := id C
  have hl : lv_has ls 2 [(0, .ref (a 0)), (1, .int x)] := hl
  refine lv_aload_n hx hb d_Md_feed_0 rfl (lv_at hl 0 rfl) ?_
  refine lv_iconst (v := nI 0) hx hb d_Md_feed_1 (by decide +kernel) ?_
  refine md_p_thrown C hw d_Md_feed_2 (fun H locs hw => ?_)
  refine lv_iload_n hx hb d_Md_feed_5 rfl (lv_at hl 1 rfl) ?_
  refine lv_if_lt (tgt := 25) hx hb d_Md_feed_6 (by decide) (fun c_1 => ?_) (fun c_1 => ?_)
  · refine lv_iconst (v := nI 0) hx hb d_Md_feed_25 (by decide +kernel) ?_
    exact kr _ _ _ _ _ (0, 0) d_Md_feed_26 rfl hw (Or.inl ⟨Or.inl c_1, rfl, rfl⟩)
  · refine lv_iload_n hx hb d_Md_feed_9 rfl (lv_at hl 1 rfl) ?_
    refine lv_sipush (v := nI 255) hx hb d_Md_feed_10 (by decide +kernel) ?_
    refine lv_icmp_gt (tgt := 25) hx hb d_Md_feed_13 (by decide) (fun c_2 => ?_) (fun c_2 => ?_)
    · refine lv_iconst (v := nI 0) hx hb d_Md_feed_25 (by decide +kernel) ?_
      exact kr _ _ _ _ _ (0, 0) d_Md_feed_26 rfl hw (Or.inl ⟨Or.inr (Or.inl c_2), rfl, rfl⟩)
    · obtain ⟨v, hv, rfl⟩ := pb_num (by decide) c_1 c_2
      refine lv_aload_n hx hb d_Md_feed_16 rfl (lv_at hl 0 rfl) ?_
      refine md_g_fedLong C hw.1 d_Md_feed_17 ?_
      refine lv_bipush (v := nI 48) hx hb d_Md_feed_20 (by decide +kernel) ?_
      refine pb_ne (tgt := 27) (by omega) (by omega) hx hb d_Md_feed_22 (by decide) (fun c_3 => ?_) (fun c_3 => ?_)
      · refine lv_aload_n hx hb d_Md_feed_27 rfl (lv_at hl 0 rfl) ?_
        refine md_g_fed C hw.1 d_Md_feed_28 ?_
        refine lv_aload_n hx hb d_Md_feed_31 rfl (lv_at hl 0 rfl) ?_
        refine md_g_fedLong C hw.1 d_Md_feed_32 ?_
        refine lv_iload_n hx hb d_Md_feed_35 rfl (lv_at hl 1 rfl) ?_
        refine md_s_fed C hw (by omega) d_Md_feed_36 (fun H locs hw => ?_)
        refine lv_aload_n hx hb d_Md_feed_37 rfl (lv_at hl 0 rfl) ?_
        refine lv_dup hx hb d_Md_feed_38 rfl ?_
        refine md_g_fedLong C hw.1 d_Md_feed_39 ?_
        refine lv_iconst (v := nI 1) hx hb d_Md_feed_42 (by decide +kernel) ?_
        refine pb_add hx hb d_Md_feed_43 ?_
        refine md_p_fedLong C hw d_Md_feed_44 (fun H locs hw => ?_)
        refine lv_iconst (v := nI 1) hx hb d_Md_feed_47 (by decide +kernel) ?_
        exact kr _ _ _ _ _ (1, v) d_Md_feed_48 rfl hw (Or.inr ⟨v, by omega, rfl, by omega, rfl, rfl⟩)
      · refine lv_iconst (v := nI 0) hx hb d_Md_feed_25 (by decide +kernel) ?_
        exact kr _ _ _ _ _ (0, 0) d_Md_feed_26 rfl hw (Or.inl ⟨Or.inr (Or.inr c_3), rfl, rfl⟩)
set_option maxHeartbeats 4000000 in
set_option maxRecDepth 100000 in
theorem c_Md_find (l : Launch) (D : va_G) (a : Nat → Nat) (k : Nat → ClassId) (n : Nat) (op : Nat) (tn : Nat) (mn : Nat) (th : Nat) (fl : Nat) (wr : Nat) (bl : Nat → Nat) (fd : Nat → Nat) (wh : Nat → Nat) (bf : Nat → Nat) (M : Nat → Nat → Nat) (en lb lp lw : Nat → Nat) (x y : Int32) (sz0 : Nat) (hn64 : n ≤ 64) (hn4 : 4 ≤ n) (hM : ∀ x j, M x j < 256) (hop : op ≤ 1) (ho : op = 1 → (∀ q, q < mn → bl q = en q) ∧ (∀ q, q < wr → wh q = 64 * lb q + lp q ∧ bf q = lw q) ∧ pb_inv n tn mn wr en lb lp lw) : Met l y_Md_find (pb_ws y_Md_find b_Md_find 4 (some .int)) (pb_rm 1 0 0) (pb_P D k [.ref (a 0), .int x, .int y] (md_W a k n op tn mn th fl wr (pb_flat M) bl fd wh bf) sz0) (pb_QI D (md_W a k n op tn mn th fl wr (pb_flat M) bl fd wh bf) sz0 (fun (r : Int32) (u : Unit) => pb_finds op mn en M x y r) (fun (u : Unit) => md_W a k n op tn mn 0 fl wr (pb_flat M) bl fd wh bf)) 0 0 (va_A (md_W a k n op tn mn th fl wr (pb_flat M) bl fd wh bf) sz0) := by
  refine pb_mkI R_Md rfl (by decide) (Nat.le_of_ble_eq_true rfl) ?_
  intro p e R s m args below meth c Q A ls C hRc hA hw hl kr
  obtain ⟨H, hH⟩ : ∃ H : Heap, H = s.heap := ⟨_, rfl⟩
  obtain ⟨locs, hL⟩ : ∃ L : List Loc, L = [] := ⟨_, rfl⟩
  have hw : pb_W D A s.heap (md_W a k n op tn mn th fl wr (pb_flat M) bl fd wh bf) H locs := by rw [hH, hL]; exact hw
  rw [show W p l e R s m args below meth c s.heap [] 0 0 Q (F0 m 0 ls []) = W p l e R s m args below meth c H locs 0 0 Q (F0 m 0 ls []) by rw [hH, hL]]
  clear hH hL
  obtain ⟨hx, hb, hml, hown, hG, hkn, hR1, hR2⟩ := id C
  have hl : lv_has ls 4 [(0, .ref (a 0)), (1, .int x), (2, .int y)] := hl
  refine lv_aload_n hx hb d_Md_find_0 rfl (lv_at hl 0 rfl) ?_
  refine lv_iconst (v := nI 0) hx hb d_Md_find_1 (by decide +kernel) ?_
  refine md_p_thrown C hw d_Md_find_2 (fun H locs hw => ?_)
  refine lv_aload_n hx hb d_Md_find_5 rfl (lv_at hl 0 rfl) ?_
  refine md_g_open C hw.1 d_Md_find_6 ?_
  refine pb_nz (tgt := 14) (by omega) hx hb d_Md_find_9 (by decide) (fun c_1 => ?_) (fun c_1 => ?_)
  · obtain ⟨hbe, hlg, ht, hmn, hen0, hsz, hlog⟩ := ho (by omega)
    have hen : ∀ q, q < mn → en q < 64 := fun q h => by have := hen0 q h; omega
    have hop1 : op = 1 := by omega
    refine lv_aload_n hx hb d_Md_find_14 rfl (lv_at hl 0 rfl) ?_
    refine md_g_entries C hw.1 d_Md_find_15 ?_
    refine lv_iconst (v := nI 1) hx hb d_Md_find_18 (by decide +kernel) ?_
    refine lv_isub hx hb d_Md_find_19 ?_
    refine pb_top (show (nI mn) - (nI 1) = pb_m mn from rfl) ?_
    refine lv_istore_n (lv' := [(3, .int (pb_m mn)), (0, .ref (a 0)), (1, .int x), (2, .int y)]) hx hb d_Md_find_20 rfl hl (by decide) rfl (fun ls hl => ?_)
    have loop21 : ∀ (fu : Nat) (j : Nat) (H : Heap) (locs : List Loc) (ls : Array Slot), (j ≤ mn) → (j + 1 ≤ fu) → (∀ q', j ≤ q' → q' < mn → nI (M (en q') 0 + 256 * M (en q') 1) ≠ x) → pb_W D A s.heap (md_W a k n op tn mn 0 fl wr (pb_flat M) bl fd wh bf) H locs → lv_has ls 4 [(3, .int (pb_m j)), (0, .ref (a 0)), (1, .int x), (2, .int y)] → W p l e R s m args below meth c H locs 0 0 Q (F0 m 21 ls []) := by
      intro fu
      induction fu with
      | zero =>
        intro j H locs ls h1 hn hs
        exfalso
        omega
      | succ fu ih =>
        intro j H locs ls h1 hn hs hw hl
        refine lv_iload_n hx hb d_Md_find_21 rfl (lv_at hl 0 rfl) ?_
        refine lv_if_lt (tgt := 82) hx hb d_Md_find_22 (by decide) (fun c_2 => ?_) (fun c_2 => ?_)
        · refine lv_iconst (v := -1) hx hb d_Md_find_82 (by decide +kernel) ?_
          exact kr _ _ _ _ _ () d_Md_find_83 rfl hw (Or.inr (Or.inl ⟨hop1, fun q hq => hs q (by have := (pb_m_neg (show j < 2 ^ 31 by omega)).mp c_2; omega) hq, rfl⟩))
        · have cj : 0 < j := by
            rcases Nat.eq_zero_or_pos j with q | q
            · exact absurd ((pb_m_neg (by omega)).mpr q) c_2
            · exact q
          obtain ⟨q, rfl⟩ : ∃ q, j = q + 1 := ⟨j - 1, by omega⟩
          rw [pb_m_s] at hl
          have he := hen0 q (by omega)
          have hq1 := hbe q (by omega)
          refine lv_aload_n hx hb d_Md_find_25 rfl (lv_at hl 1 rfl) ?_
          refine lv_iload_n hx hb d_Md_find_26 rfl (lv_at hl 0 rfl) ?_
          refine pb_vR (As := [.int (nI q)]) (rest := []) C hw.1 k_Md_nameOf m_382 (c_Md_nameOf l D a k n op tn mn 0 fl wr bl fd wh bf M en q (by omega) hmn hbe hen) rfl hl.1 0 2 rfl rfl rfl ⟨by decide, by decide⟩ ⟨Nat.zero_le _, Nat.zero_le _⟩ rfl (Nat.le_of_ble_eq_true rfl) d_Md_find_27 (fun r27 h27 => ?_)
          subst h27
          refine lv_iload_n hx hb d_Md_find_30 rfl (lv_at hl 2 rfl) ?_
          refine lv_icmp_ne (tgt := 76) hx hb d_Md_find_31 (by decide) (fun c_3 => ?_) (fun c_3 => ?_)
          · refine lv_iinc (v := pb_m q) (lv' := [(3, .int (pb_m q)), (0, .ref (a 0)), (1, .int x), (2, .int y)]) hx hb d_Md_find_76 hl (k := 0) rfl (pb_m_dec _) (by decide) rfl (fun ls hl => ?_)
            refine lv_goto (tgt := 21) hx hb d_Md_find_79 (by decide) ?_
            exact ih q _ _ _ (by omega) (by omega) (fun q' g1 g2 => by rcases Nat.lt_or_ge q q' with z | z; exact hs q' z g2; obtain rfl : q' = q := (by omega); exact c_3) hw (lv_sub hl [0, 1, 2, 3] rfl)
          · refine lv_iload_n hx hb d_Md_find_34 rfl (lv_at hl 3 rfl) ?_
            refine lv_if_lt (tgt := 53) hx hb d_Md_find_35 (by decide) (fun c_4 => ?_) (fun c_4 => ?_)
            · refine lv_iconst (v := -1) hx hb d_Md_find_53 (by decide +kernel) ?_
              refine lv_goto (tgt := 75) hx hb d_Md_find_54 (by decide) ?_
              exact kr _ _ _ _ _ () d_Md_find_75 rfl hw (Or.inr (Or.inr ⟨hop1, q, by omega, c_3, fun q' g1 g2 => hs q' g1 g2, Or.inl ⟨Or.inl c_4, rfl⟩⟩))
            · refine lv_iload_n hx hb d_Md_find_38 rfl (lv_at hl 3 rfl) ?_
              refine lv_aload_n hx hb d_Md_find_39 rfl (lv_at hl 1 rfl) ?_
              refine lv_iload_n hx hb d_Md_find_40 rfl (lv_at hl 0 rfl) ?_
              refine pb_vR (As := [.int (nI q)]) (rest := [.int y]) C hw.1 k_Md_longOf m_354 (c_Md_longOf l D a k n op tn mn 0 fl wr bl fd wh bf M en q (by omega) hmn hbe hen) rfl hl.1 0 2 rfl rfl rfl ⟨by decide, by decide⟩ ⟨Nat.zero_le _, Nat.zero_le _⟩ rfl (Nat.le_of_ble_eq_true rfl) d_Md_find_41 (fun r41 h41 => ?_)
              subst h41
              refine lv_icmp_ge (tgt := 53) hx hb d_Md_find_44 (by decide) (fun c_5 => ?_) (fun c_5 => ?_)
              · refine lv_iconst (v := -1) hx hb d_Md_find_53 (by decide +kernel) ?_
                refine lv_goto (tgt := 75) hx hb d_Md_find_54 (by decide) ?_
                exact kr _ _ _ _ _ () d_Md_find_75 rfl hw (Or.inr (Or.inr ⟨hop1, q, by omega, c_3, fun q' g1 g2 => hs q' g1 g2, Or.inl ⟨Or.inr (Or.inl c_5), rfl⟩⟩))
              · refine lv_iload_n hx hb d_Md_find_47 rfl (lv_at hl 3 rfl) ?_
                refine lv_bipush (v := nI 48) hx hb d_Md_find_48 (by decide +kernel) ?_
                refine lv_icmp_lt (tgt := 57) hx hb d_Md_find_50 (by decide) (fun c_6 => ?_) (fun c_6 => ?_)
                · obtain ⟨i, hi, rfl⟩ := pb_num_lt (by decide) c_4 c_6
                  have c_5b : i < M (en q) 2 := by
                    have h2 := hM (en q) 2
                    rcases Nat.lt_or_ge i (M (en q) 2) with z | z
                    · exact z
                    · exact absurd ((nI_leI (by omega) (by omega)).mpr z) c_5
                  refine lv_aload_n hx hb d_Md_find_57 rfl (lv_at hl 1 rfl) ?_
                  refine md_g_store C hw.1 d_Md_find_58 ?_
                  refine lv_bipush (v := nI 64) hx hb d_Md_find_61 (by decide +kernel) ?_
                  refine lv_aload_n hx hb d_Md_find_63 rfl (lv_at hl 1 rfl) ?_
                  refine md_g_block C hw.1 d_Md_find_64 ?_
                  refine lv_iload_n hx hb d_Md_find_67 rfl (lv_at hl 0 rfl) ?_
                  refine md_l_block C hw.1 (by omega) d_Md_find_68 ?_
                  refine pb_mul hx hb d_Md_find_69 ?_
                  refine lv_iconst (v := nI 3) hx hb d_Md_find_70 (by decide +kernel) ?_
                  refine pb_add hx hb d_Md_find_71 ?_
                  refine lv_iload_n hx hb d_Md_find_72 rfl (lv_at hl 3 rfl) ?_
                  refine pb_add hx hb d_Md_find_73 ?_
                  refine md_lf (b := bl q) (i := 3 + i) C hw.1 (by omega) (by omega) (by omega) d_Md_find_74 ?_
                  exact kr _ _ _ _ _ () d_Md_find_75 rfl hw (Or.inr (Or.inr ⟨hop1, q, by omega, c_3, fun q' g1 g2 => hs q' g1 g2, Or.inr ⟨i, hi, c_5b, rfl, by rw [hq1]⟩⟩))
                · refine lv_iconst (v := -1) hx hb d_Md_find_53 (by decide +kernel) ?_
                  refine lv_goto (tgt := 75) hx hb d_Md_find_54 (by decide) ?_
                  exact kr _ _ _ _ _ () d_Md_find_75 rfl hw (Or.inr (Or.inr ⟨hop1, q, by omega, c_3, fun q' g1 g2 => hs q' g1 g2, Or.inl ⟨Or.inr (Or.inr (Int32.not_lt.mp c_6)), rfl⟩⟩))
    exact loop21 (mn + 1) mn _ _ _ (by omega) (by omega) (fun q' g1 g2 => by omega) hw (lv_sub hl [0, 1, 2, 3] rfl)
  · refine lv_iconst (v := -1) hx hb d_Md_find_12 (by decide +kernel) ?_
    exact kr _ _ _ _ _ () d_Md_find_13 rfl hw (Or.inl ⟨c_1, rfl⟩)
set_option maxHeartbeats 4000000 in
set_option maxRecDepth 100000 in
theorem c_Md_entry (l : Launch) (D : va_G) (a : Nat → Nat) (k : Nat → ClassId) (n : Nat) (op : Nat) (tn : Nat) (mn : Nat) (th : Nat) (fl : Nat) (wr : Nat) (bl : Nat → Nat) (fd : Nat → Nat) (wh : Nat → Nat) (bf : Nat → Nat) (M : Nat → Nat → Nat) (en lb lp lw : Nat → Nat) (x y : Int32) (sz0 : Nat) (hn64 : n ≤ 64) (hn4 : 4 ≤ n) (hM : ∀ x j, M x j < 256) (hop : op ≤ 1) (ho : op = 1 → (∀ q, q < mn → bl q = en q) ∧ (∀ q, q < wr → wh q = 64 * lb q + lp q ∧ bf q = lw q) ∧ pb_inv n tn mn wr en lb lp lw) : Met l y_Md_entry (pb_ws y_Md_entry b_Md_entry 3 (some .int)) (pb_rm 1 0 0) (pb_P D k [.ref (a 0), .int x, .int y] (md_W a k n op tn mn th fl wr (pb_flat M) bl fd wh bf) sz0) (pb_QI D (md_W a k n op tn mn th fl wr (pb_flat M) bl fd wh bf) sz0 (fun (r : Int32) (u : Unit) => pb_entrys op mn en M x y r) (fun (u : Unit) => md_W a k n op tn mn 0 fl wr (pb_flat M) bl fd wh bf)) 0 0 (va_A (md_W a k n op tn mn th fl wr (pb_flat M) bl fd wh bf) sz0) := by
  refine pb_mkI R_Md rfl (by decide) (Nat.le_of_ble_eq_true rfl) ?_
  intro p e R s m args below meth c Q A ls C hRc hA hw hl kr
  obtain ⟨H, hH⟩ : ∃ H : Heap, H = s.heap := ⟨_, rfl⟩
  obtain ⟨locs, hL⟩ : ∃ L : List Loc, L = [] := ⟨_, rfl⟩
  have hw : pb_W D A s.heap (md_W a k n op tn mn th fl wr (pb_flat M) bl fd wh bf) H locs := by rw [hH, hL]; exact hw
  rw [show W p l e R s m args below meth c s.heap [] 0 0 Q (F0 m 0 ls []) = W p l e R s m args below meth c H locs 0 0 Q (F0 m 0 ls []) by rw [hH, hL]]
  clear hH hL
  obtain ⟨hx, hb, hml, hown, hG, hkn, hR1, hR2⟩ := id C
  have hl : lv_has ls 3 [(0, .ref (a 0)), (1, .int x), (2, .int y)] := hl
  refine lv_aload_n hx hb d_Md_entry_0 rfl (lv_at hl 0 rfl) ?_
  refine lv_iconst (v := nI 0) hx hb d_Md_entry_1 (by decide +kernel) ?_
  refine md_p_thrown C hw d_Md_entry_2 (fun H locs hw => ?_)
  refine lv_aload_n hx hb d_Md_entry_5 rfl (lv_at hl 0 rfl) ?_
  refine md_g_open C hw.1 d_Md_entry_6 ?_
  refine pb_z (tgt := 24) (by omega) hx hb d_Md_entry_9 (by decide) (fun c_1 => ?_) (fun c_1 => ?_)
  · refine lv_iconst (v := -1) hx hb d_Md_entry_24 (by decide +kernel) ?_
    exact kr _ _ _ _ _ () d_Md_entry_25 rfl hw (Or.inl ⟨Or.inl c_1, rfl⟩)
  · obtain ⟨hbe, hlg, ht, hmn, hen0, hsz, hlog⟩ := ho (by omega)
    have hen : ∀ q, q < mn → en q < 64 := fun q h => by have := hen0 q h; omega
    have hop1 : op = 1 := by omega
    refine lv_iload_n hx hb d_Md_entry_12 rfl (lv_at hl 1 rfl) ?_
    refine lv_if_lt (tgt := 24) hx hb d_Md_entry_13 (by decide) (fun c_2 => ?_) (fun c_2 => ?_)
    · refine lv_iconst (v := -1) hx hb d_Md_entry_24 (by decide +kernel) ?_
      exact kr _ _ _ _ _ () d_Md_entry_25 rfl hw (Or.inl ⟨Or.inr (Or.inl c_2), rfl⟩)
    · refine lv_iload_n hx hb d_Md_entry_16 rfl (lv_at hl 1 rfl) ?_
      refine lv_aload_n hx hb d_Md_entry_17 rfl (lv_at hl 0 rfl) ?_
      refine md_g_entries C hw.1 d_Md_entry_18 ?_
      refine lv_icmp_lt (tgt := 26) hx hb d_Md_entry_21 (by decide) (fun c_3 => ?_) (fun c_3 => ?_)
      · obtain ⟨q, hq, rfl⟩ := pb_num_lt (by omega) c_2 c_3
        have he := hen0 q hq
        have hq1 := hbe q hq
        refine lv_iload_n hx hb d_Md_entry_26 rfl (lv_at hl 2 rfl) ?_
        refine lv_if_ne (tgt := 38) hx hb d_Md_entry_27 (by decide) (fun c_4 => ?_) (fun c_4 => ?_)
        · refine lv_iload_n hx hb d_Md_entry_38 rfl (lv_at hl 2 rfl) ?_
          refine lv_iconst (v := nI 1) hx hb d_Md_entry_39 (by decide +kernel) ?_
          refine lv_icmp_ne (tgt := 52) hx hb d_Md_entry_40 (by decide) (fun c_5 => ?_) (fun c_5 => ?_)
          · refine lv_iload_n hx hb d_Md_entry_52 rfl (lv_at hl 2 rfl) ?_
            refine lv_iconst (v := nI 2) hx hb d_Md_entry_53 (by decide +kernel) ?_
            refine lv_icmp_ne (tgt := 65) hx hb d_Md_entry_54 (by decide) (fun c_6 => ?_) (fun c_6 => ?_)
            · refine lv_iconst (v := -1) hx hb d_Md_entry_65 (by decide +kernel) ?_
              exact kr _ _ _ _ _ () d_Md_entry_66 rfl hw (Or.inr ⟨hop1, q, hq, rfl, Or.inr (Or.inr (Or.inr ⟨fun z => c_4 (z.trans nI_0), c_5, c_6, rfl⟩))⟩)
            · refine lv_aload_n hx hb d_Md_entry_57 rfl (lv_at hl 0 rfl) ?_
              refine lv_iload_n hx hb d_Md_entry_58 rfl (lv_at hl 1 rfl) ?_
              refine pb_vR (As := [.int (nI q)]) (rest := []) C hw.1 k_Md_longOf m_354 (c_Md_longOf l D a k n op tn mn 0 fl wr bl fd wh bf M en q (by omega) hmn hbe hen) rfl hl.1 0 2 rfl rfl rfl ⟨by decide, by decide⟩ ⟨Nat.zero_le _, Nat.zero_le _⟩ rfl (Nat.le_of_ble_eq_true rfl) d_Md_entry_59 (fun r59 h59 => ?_)
              subst h59
              refine lv_goto (tgt := 66) hx hb d_Md_entry_62 (by decide) ?_
              exact kr _ _ _ _ _ () d_Md_entry_66 rfl hw (Or.inr ⟨hop1, q, hq, rfl, Or.inr (Or.inr (Or.inl ⟨c_6, rfl⟩))⟩)
          · refine lv_aload_n hx hb d_Md_entry_43 rfl (lv_at hl 0 rfl) ?_
            refine md_g_block C hw.1 d_Md_entry_44 ?_
            refine lv_iload_n hx hb d_Md_entry_47 rfl (lv_at hl 1 rfl) ?_
            refine md_l_block C hw.1 (by omega) d_Md_entry_48 ?_
            refine lv_goto (tgt := 66) hx hb d_Md_entry_49 (by decide) ?_
            exact kr _ _ _ _ _ () d_Md_entry_66 rfl hw (Or.inr ⟨hop1, q, hq, rfl, Or.inr (Or.inl ⟨c_5, by rw [hq1]⟩)⟩)
        · refine lv_aload_n hx hb d_Md_entry_30 rfl (lv_at hl 0 rfl) ?_
          refine lv_iload_n hx hb d_Md_entry_31 rfl (lv_at hl 1 rfl) ?_
          refine pb_vR (As := [.int (nI q)]) (rest := []) C hw.1 k_Md_nameOf m_382 (c_Md_nameOf l D a k n op tn mn 0 fl wr bl fd wh bf M en q (by omega) hmn hbe hen) rfl hl.1 0 2 rfl rfl rfl ⟨by decide, by decide⟩ ⟨Nat.zero_le _, Nat.zero_le _⟩ rfl (Nat.le_of_ble_eq_true rfl) d_Md_entry_32 (fun r32 h32 => ?_)
          subst h32
          refine lv_goto (tgt := 66) hx hb d_Md_entry_35 (by decide) ?_
          exact kr _ _ _ _ _ () d_Md_entry_66 rfl hw (Or.inr ⟨hop1, q, hq, rfl, Or.inl ⟨c_4.trans nI_0.symm, rfl⟩⟩)
      · refine lv_iconst (v := -1) hx hb d_Md_entry_24 (by decide +kernel) ?_
        exact kr _ _ _ _ _ () d_Md_entry_25 rfl hw (Or.inl ⟨Or.inr (Or.inr (Int32.not_lt.mp c_3)), rfl⟩)
set_option maxHeartbeats 4000000 in
set_option maxRecDepth 100000 in
theorem c_Md_badAt (l : Launch) (D : va_G) (a : Nat → Nat) (k : Nat → ClassId) (n : Nat) (op : Nat) (tn : Nat) (mn : Nat) (th : Nat) (fl : Nat) (wr : Nat) (bl : Nat → Nat) (fd : Nat → Nat) (wh : Nat → Nat) (bf : Nat → Nat) (M : Nat → Nat → Nat) (en lb lp lw : Nat → Nat) (sz0 : Nat) (hn64 : n ≤ 64) (hn4 : 4 ≤ n) (hM : ∀ x j, M x j < 256) (hop : op ≤ 1) (ho : op = 1 → (∀ q, q < mn → bl q = en q) ∧ (∀ q, q < wr → wh q = 64 * lb q + lp q ∧ bf q = lw q) ∧ pb_inv n tn mn wr en lb lp lw) : Met l y_Md_badAt (pb_ws y_Md_badAt b_Md_badAt 2 (some .int)) (pb_rm 2 0 0) (pb_P D k [.ref (a 0)] (md_W a k n op tn mn th fl wr (pb_flat M) bl fd wh bf) sz0) (pb_QI D (md_W a k n op tn mn th fl wr (pb_flat M) bl fd wh bf) sz0 (fun (r : Int32) (u : Unit) => pb_bads n op tn mn en M r) (fun (u : Unit) => md_W a k n op tn mn 0 fl wr (pb_flat M) bl fd wh bf)) 0 0 (va_A (md_W a k n op tn mn th fl wr (pb_flat M) bl fd wh bf) sz0) := by
  refine pb_mkI R_Md rfl (by decide) (Nat.le_of_ble_eq_true rfl) ?_
  intro p e R s m args below meth c Q A ls C hRc hA hw hl kr
  obtain ⟨H, hH⟩ : ∃ H : Heap, H = s.heap := ⟨_, rfl⟩
  obtain ⟨locs, hL⟩ : ∃ L : List Loc, L = [] := ⟨_, rfl⟩
  have hw : pb_W D A s.heap (md_W a k n op tn mn th fl wr (pb_flat M) bl fd wh bf) H locs := by rw [hH, hL]; exact hw
  rw [show W p l e R s m args below meth c s.heap [] 0 0 Q (F0 m 0 ls []) = W p l e R s m args below meth c H locs 0 0 Q (F0 m 0 ls []) by rw [hH, hL]]
  clear hH hL
  obtain ⟨hx, hb, hml, hown, hG, hkn, hR1, hR2⟩ := id C
  have hl : lv_has ls 2 [(0, .ref (a 0))] := hl
  refine lv_aload_n hx hb d_Md_badAt_0 rfl (lv_at hl 0 rfl) ?_
  refine lv_iconst (v := nI 0) hx hb d_Md_badAt_1 (by decide +kernel) ?_
  refine md_p_thrown C hw d_Md_badAt_2 (fun H locs hw => ?_)
  refine lv_aload_n hx hb d_Md_badAt_5 rfl (lv_at hl 0 rfl) ?_
  refine md_g_open C hw.1 d_Md_badAt_6 ?_
  refine pb_nz (tgt := 14) (by omega) hx hb d_Md_badAt_9 (by decide) (fun c_1 => ?_) (fun c_1 => ?_)
  · obtain ⟨hbe, hlg, ht, hmn, hen0, hsz, hlog⟩ := ho (by omega)
    have hen : ∀ q, q < mn → en q < 64 := fun q h => by have := hen0 q h; omega
    have hop1 : op = 1 := by omega
    refine lv_aload_n hx hb d_Md_badAt_14 rfl (lv_at hl 0 rfl) ?_
    refine lv_aload_n hx hb d_Md_badAt_15 rfl (lv_at hl 0 rfl) ?_
    refine md_g_turn C hw.1 d_Md_badAt_16 ?_
    refine pb_vR (As := [.int (nI tn)]) (rest := []) C hw.1 k_Md_isRight m_402 (c_Md_isRight l D a k n op tn mn 0 fl wr bl fd wh bf M tn (by omega) hM) rfl hl.1 0 2 rfl rfl rfl ⟨by decide, by decide⟩ ⟨Nat.zero_le _, Nat.zero_le _⟩ rfl (Nat.le_of_ble_eq_true rfl) d_Md_badAt_19 (fun r19 h19 => ?_)
    rcases h19 with ⟨rfl, h19⟩ | ⟨rfl, h19⟩
    · refine pb_nz (tgt := 30) (by decide) hx hb d_Md_badAt_22 (by decide) (fun _ => ?_) (fun c_2 => absurd c_2 (by decide))
      refine lv_iconst (v := nI 3) hx hb d_Md_badAt_30 (by decide +kernel) ?_
      refine lv_istore_n (lv' := [(1, .int (nI 3)), (0, .ref (a 0))]) hx hb d_Md_badAt_31 rfl hl (by decide) rfl (fun ls hl => ?_)
      have loop32 : ∀ (fu : Nat) (i : Nat) (H : Heap) (locs : List Loc) (ls : Array Slot), (3 ≤ i) → (i ≤ n) → (n + 1 ≤ i + fu) → (∀ b', 3 ≤ b' → b' < i → ¬ (pb_used mn en b' ∧ ¬ pb_right (M b'))) → pb_W D A s.heap (md_W a k n op tn mn 0 fl wr (pb_flat M) bl fd wh bf) H locs → lv_has ls 2 [(1, .int (nI i)), (0, .ref (a 0))] → W p l e R s m args below meth c H locs 0 0 Q (F0 m 32 ls []) := by
        intro fu
        induction fu with
        | zero =>
          intro i H locs ls h3 hi hn hs
          exfalso
          omega
        | succ fu ih =>
          intro i H locs ls h3 hi hn hs hw hl
          refine lv_iload_n hx hb d_Md_badAt_32 rfl (lv_at hl 0 rfl) ?_
          refine lv_aload_n hx hb d_Md_badAt_33 rfl (lv_at hl 1 rfl) ?_
          refine md_g_blocks C hw.1 d_Md_badAt_34 ?_
          refine pb_ge (tgt := 64) (by omega) (by omega) hx hb d_Md_badAt_37 (by decide) (fun c_3 => ?_) (fun c_3 => ?_)
          · refine lv_iconst (v := -1) hx hb d_Md_badAt_64 (by decide +kernel) ?_
            exact kr _ _ _ _ _ () d_Md_badAt_65 rfl hw (Or.inr (Or.inr (Or.inr ⟨hop1, h19, fun b' g1 g2 => hs b' g1 (by omega), rfl⟩)))
          · refine lv_aload_n hx hb d_Md_badAt_40 rfl (lv_at hl 1 rfl) ?_
            refine lv_iload_n hx hb d_Md_badAt_41 rfl (lv_at hl 0 rfl) ?_
            refine pb_vR (As := [.int (nI i)]) (rest := []) C hw.1 k_Md_isUsed m_362 (c_Md_isUsed l D a k n op tn mn 0 fl wr bl fd wh bf M en i hmn hbe hen (by omega)) rfl hl.1 0 2 rfl rfl rfl ⟨by decide, by decide⟩ ⟨Nat.zero_le _, Nat.zero_le _⟩ rfl (Nat.le_of_ble_eq_true rfl) d_Md_badAt_42 (fun r42 h42 => ?_)
            rcases h42 with ⟨rfl, h42⟩ | ⟨rfl, h42⟩
            · refine pb_z (tgt := 58) (by decide) hx hb d_Md_badAt_45 (by decide) (fun c_4 => absurd c_4 (by decide)) (fun _ => ?_)
              refine lv_aload_n hx hb d_Md_badAt_48 rfl (lv_at hl 1 rfl) ?_
              refine lv_iload_n hx hb d_Md_badAt_49 rfl (lv_at hl 0 rfl) ?_
              refine pb_vR (As := [.int (nI i)]) (rest := []) C hw.1 k_Md_isRight m_402 (c_Md_isRight l D a k n op tn mn 0 fl wr bl fd wh bf M i (by omega) hM) rfl hl.1 0 2 rfl rfl rfl ⟨by decide, by decide⟩ ⟨Nat.zero_le _, Nat.zero_le _⟩ rfl (Nat.le_of_ble_eq_true rfl) d_Md_badAt_50 (fun r50 h50 => ?_)
              rcases h50 with ⟨rfl, h50⟩ | ⟨rfl, h50⟩
              · refine pb_nz (tgt := 58) (by decide) hx hb d_Md_badAt_53 (by decide) (fun _ => ?_) (fun c_5 => absurd c_5 (by decide))
                refine lv_iinc (v := nI (i + 1)) (lv' := [(1, .int (nI (i + 1))), (0, .ref (a 0))]) hx hb d_Md_badAt_58 hl (k := 0) rfl (pb_i1 _) (by decide) rfl (fun ls hl => ?_)
                refine lv_goto (tgt := 32) hx hb d_Md_badAt_61 (by decide) ?_
                exact ih (i + 1) _ _ _ (by omega) (by omega) (by omega) (fun j g3 hj => by rcases Nat.lt_succ_iff_lt_or_eq.mp hj with z | z; exact hs j g3 z; subst z; exact fun z => z.2 h50) hw (lv_sub hl [0, 1] rfl)
              · refine pb_nz (tgt := 58) (by decide) hx hb d_Md_badAt_53 (by decide) (fun c_5 => absurd c_5 (by decide)) (fun _ => ?_)
                refine lv_iload_n hx hb d_Md_badAt_56 rfl (lv_at hl 0 rfl) ?_
                exact kr _ _ _ _ _ () d_Md_badAt_57 rfl hw (Or.inr (Or.inr (Or.inl ⟨hop1, h19, i, h3, by omega, h42, h50, hs, rfl⟩)))
            · refine pb_z (tgt := 58) (by decide) hx hb d_Md_badAt_45 (by decide) (fun _ => ?_) (fun c_4 => absurd c_4 (by decide))
              refine lv_iinc (v := nI (i + 1)) (lv' := [(1, .int (nI (i + 1))), (0, .ref (a 0))]) hx hb d_Md_badAt_58 hl (k := 0) rfl (pb_i1 _) (by decide) rfl (fun ls hl => ?_)
              refine lv_goto (tgt := 32) hx hb d_Md_badAt_61 (by decide) ?_
              exact ih (i + 1) _ _ _ (by omega) (by omega) (by omega) (fun j g3 hj => by rcases Nat.lt_succ_iff_lt_or_eq.mp hj with z | z; exact hs j g3 z; subst z; exact fun z => h42 z.1) hw (lv_sub hl [0, 1] rfl)
      exact loop32 (n + 1) 3 _ _ _ (by omega) (by omega) (by omega) (fun j h3 hj => by omega) hw (lv_sub hl [0, 1] rfl)
    · refine pb_nz (tgt := 30) (by decide) hx hb d_Md_badAt_22 (by decide) (fun c_2 => absurd c_2 (by decide)) (fun _ => ?_)
      refine lv_aload_n hx hb d_Md_badAt_25 rfl (lv_at hl 0 rfl) ?_
      refine md_g_turn C hw.1 d_Md_badAt_26 ?_
      exact kr _ _ _ _ _ () d_Md_badAt_29 rfl hw (Or.inr (Or.inl ⟨hop1, h19, rfl⟩))
  · refine lv_iconst (v := -1) hx hb d_Md_badAt_12 (by decide +kernel) ?_
    exact kr _ _ _ _ _ () d_Md_badAt_13 rfl hw (Or.inl ⟨c_1, rfl⟩)
set_option maxHeartbeats 4000000 in
set_option maxRecDepth 100000 in
theorem c_Md_poke (l : Launch) (D : va_G) (a : Nat → Nat) (k : Nat → ClassId) (n : Nat) (op : Nat) (tn : Nat) (mn : Nat) (th : Nat) (fl : Nat) (wr : Nat) (bl : Nat → Nat) (fd : Nat → Nat) (wh : Nat → Nat) (bf : Nat → Nat) (M : Nat → Nat → Nat) (x y w : Int32) (sz0 : Nat) (hn64 : n ≤ 64) (hn4 : 4 ≤ n) (hM : ∀ x j, M x j < 256) : Met l y_Md_poke (pb_ws y_Md_poke b_Md_poke 4 (some .boolean)) (pb_rm 1 0 0) (pb_P D k [.ref (a 0), .int x, .int y, .int w] (md_W a k n op tn mn th fl wr (pb_flat M) bl fd wh bf) sz0) (pb_QI D (md_W a k n op tn mn th fl wr (pb_flat M) bl fd wh bf) sz0 (fun (r : Int32) (u : Nat × Nat × Nat × Nat) => pb_pokes n x y w r u) (fun (u : Nat × Nat × Nat × Nat) => if u.1 = 1 then md_W a k n op tn mn 0 fl wr (pb_flat (pb_put1 M u.2.1 u.2.2.1 (M u.2.1 u.2.2.1 ^^^ u.2.2.2))) bl fd wh bf else md_W a k n op tn mn 0 fl wr (pb_flat M) bl fd wh bf)) 0 0 (va_A (md_W a k n op tn mn th fl wr (pb_flat M) bl fd wh bf) sz0) := by
  refine pb_mkI R_Md rfl (by decide) (Nat.le_of_ble_eq_true rfl) ?_
  intro p e R s m args below meth c Q A ls C hRc hA hw hl kr
  obtain ⟨H, hH⟩ : ∃ H : Heap, H = s.heap := ⟨_, rfl⟩
  obtain ⟨locs, hL⟩ : ∃ L : List Loc, L = [] := ⟨_, rfl⟩
  have hw : pb_W D A s.heap (md_W a k n op tn mn th fl wr (pb_flat M) bl fd wh bf) H locs := by rw [hH, hL]; exact hw
  rw [show W p l e R s m args below meth c s.heap [] 0 0 Q (F0 m 0 ls []) = W p l e R s m args below meth c H locs 0 0 Q (F0 m 0 ls []) by rw [hH, hL]]
  clear hH hL
  obtain ⟨hx, hb, hml, hown, hG, hkn, hR1, hR2⟩ := id C
  have hl : lv_has ls 4 [(0, .ref (a 0)), (1, .int x), (2, .int y), (3, .int w)] := hl
  refine lv_aload_n hx hb d_Md_poke_0 rfl (lv_at hl 0 rfl) ?_
  refine lv_iconst (v := nI 0) hx hb d_Md_poke_1 (by decide +kernel) ?_
  refine md_p_thrown C hw d_Md_poke_2 (fun H locs hw => ?_)
  refine lv_aload_n hx hb d_Md_poke_5 rfl (lv_at hl 0 rfl) ?_
  refine lv_iload_n hx hb d_Md_poke_6 rfl (lv_at hl 1 rfl) ?_
  refine lv_iload_n hx hb d_Md_poke_7 rfl (lv_at hl 2 rfl) ?_
  refine pb_vR (As := [.int x, .int y]) (rest := []) C hw.1 k_Md_isByte m_414 (c_Md_isByte l D a k n op tn mn 0 fl wr bl fd wh bf M x y hn64) rfl hl.1 0 2 rfl rfl rfl ⟨by decide, by decide⟩ ⟨Nat.zero_le _, Nat.zero_le _⟩ rfl (Nat.le_of_ble_eq_true rfl) d_Md_poke_8 (fun r8 h8 => ?_)
  rcases h8 with ⟨rfl, b, i, hbn, hi, rfl, rfl⟩ | ⟨rfl, h8⟩
  · refine pb_z (tgt := 26) (by decide) hx hb d_Md_poke_11 (by decide) (fun c_1 => absurd c_1 (by decide)) (fun _ => ?_)
    refine lv_iload_n hx hb d_Md_poke_14 rfl (lv_at hl 3 rfl) ?_
    refine lv_iconst (v := nI 1) hx hb d_Md_poke_15 (by decide +kernel) ?_
    refine lv_icmp_lt (tgt := 26) hx hb d_Md_poke_16 (by decide) (fun c_2 => ?_) (fun c_2 => ?_)
    · refine lv_iconst (v := nI 0) hx hb d_Md_poke_26 (by decide +kernel) ?_
      exact kr _ _ _ _ _ (0, 0, 0, 0) d_Md_poke_27 rfl hw (Or.inl ⟨Or.inr (Or.inr (Or.inr (Or.inr (Or.inl c_2)))), rfl, rfl⟩)
    · refine lv_iload_n hx hb d_Md_poke_19 rfl (lv_at hl 3 rfl) ?_
      refine lv_sipush (v := nI 255) hx hb d_Md_poke_20 (by decide +kernel) ?_
      refine lv_icmp_le (tgt := 28) hx hb d_Md_poke_23 (by decide) (fun c_3 => ?_) (fun c_3 => ?_)
      · obtain ⟨v, hv1, hv, rfl⟩ := pb_num1 (by decide) c_2 c_3
        refine lv_aload_n hx hb d_Md_poke_28 rfl (lv_at hl 0 rfl) ?_
        refine md_g_store C hw.1 d_Md_poke_29 ?_
        refine lv_bipush (v := nI 64) hx hb d_Md_poke_32 (by decide +kernel) ?_
        refine lv_iload_n hx hb d_Md_poke_34 rfl (lv_at hl 1 rfl) ?_
        refine pb_mul hx hb d_Md_poke_35 ?_
        refine lv_iload_n hx hb d_Md_poke_36 rfl (lv_at hl 2 rfl) ?_
        refine pb_add hx hb d_Md_poke_37 ?_
        refine lv_dup2_11 hx hb d_Md_poke_38 rfl rfl ?_
        refine md_lf (b := b) (i := i) C hw.1 (by omega) (by omega) (by omega) d_Md_poke_39 ?_
        refine lv_iload_n hx hb d_Md_poke_40 rfl (lv_at hl 3 rfl) ?_
        refine lv_ixor hx hb d_Md_poke_41 ?_
        refine pb_top (show (nI (M b i)) ^^^ (nI v) = nI (M b i ^^^ v) from (nx_xor _ _)) ?_
        refine md_sf (b := b) (i := i) C hw (by omega) (by omega) (by omega) d_Md_poke_42 (fun H locs hw => ?_)
        refine lv_iconst (v := nI 1) hx hb d_Md_poke_43 (by decide +kernel) ?_
        exact kr _ _ _ _ _ (1, b, i, v) d_Md_poke_44 rfl hw (Or.inr ⟨b, i, v, hbn, hi, hv1, by omega, rfl, rfl, rfl, rfl, rfl⟩)
      · refine lv_iconst (v := nI 0) hx hb d_Md_poke_26 (by decide +kernel) ?_
        exact kr _ _ _ _ _ (0, 0, 0, 0) d_Md_poke_27 rfl hw (Or.inl ⟨Or.inr (Or.inr (Or.inr (Or.inr (Or.inr (Int32.not_le.mp c_3))))), rfl, rfl⟩)
  · refine pb_z (tgt := 26) (by decide) hx hb d_Md_poke_11 (by decide) (fun _ => ?_) (fun c_1 => absurd c_1 (by decide))
    refine lv_iconst (v := nI 0) hx hb d_Md_poke_26 (by decide +kernel) ?_
    exact kr _ _ _ _ _ (0, 0, 0, 0) d_Md_poke_27 rfl hw (Or.inl ⟨by rcases h8 with g | g | g | g; exact Or.inl g; exact Or.inr (Or.inl g); exact Or.inr (Or.inr (Or.inl g)); exact Or.inr (Or.inr (Or.inr (Or.inl g))), rfl, rfl⟩)
set_option maxHeartbeats 4000000 in
set_option maxRecDepth 100000 in
theorem c_Md_byteAt (l : Launch) (D : va_G) (a : Nat → Nat) (k : Nat → ClassId) (n : Nat) (op : Nat) (tn : Nat) (mn : Nat) (th : Nat) (fl : Nat) (wr : Nat) (bl : Nat → Nat) (fd : Nat → Nat) (wh : Nat → Nat) (bf : Nat → Nat) (M : Nat → Nat → Nat) (x y : Int32) (sz0 : Nat) (hn64 : n ≤ 64) (hn4 : 4 ≤ n) (hM : ∀ x j, M x j < 256) : Met l y_Md_byteAt (pb_ws y_Md_byteAt b_Md_byteAt 3 (some .int)) (pb_rm 1 0 0) (pb_P D k [.ref (a 0), .int x, .int y] (md_W a k n op tn mn th fl wr (pb_flat M) bl fd wh bf) sz0) (pb_QI D (md_W a k n op tn mn th fl wr (pb_flat M) bl fd wh bf) sz0 (fun (r : Int32) (u : Nat) => pb_byts n M x y r u) (fun (u : Nat) => md_W a k n op tn mn u fl wr (pb_flat M) bl fd wh bf)) 0 0 (va_A (md_W a k n op tn mn th fl wr (pb_flat M) bl fd wh bf) sz0) := by
  refine pb_mkI R_Md rfl (by decide) (Nat.le_of_ble_eq_true rfl) ?_
  intro p e R s m args below meth c Q A ls C hRc hA hw hl kr
  obtain ⟨H, hH⟩ : ∃ H : Heap, H = s.heap := ⟨_, rfl⟩
  obtain ⟨locs, hL⟩ : ∃ L : List Loc, L = [] := ⟨_, rfl⟩
  have hw : pb_W D A s.heap (md_W a k n op tn mn th fl wr (pb_flat M) bl fd wh bf) H locs := by rw [hH, hL]; exact hw
  rw [show W p l e R s m args below meth c s.heap [] 0 0 Q (F0 m 0 ls []) = W p l e R s m args below meth c H locs 0 0 Q (F0 m 0 ls []) by rw [hH, hL]]
  clear hH hL
  obtain ⟨hx, hb, hml, hown, hG, hkn, hR1, hR2⟩ := id C
  have hl : lv_has ls 3 [(0, .ref (a 0)), (1, .int x), (2, .int y)] := hl
  refine lv_aload_n hx hb d_Md_byteAt_0 rfl (lv_at hl 0 rfl) ?_
  refine lv_aload_n hx hb d_Md_byteAt_1 rfl (lv_at hl 0 rfl) ?_
  refine lv_iload_n hx hb d_Md_byteAt_2 rfl (lv_at hl 1 rfl) ?_
  refine lv_iload_n hx hb d_Md_byteAt_3 rfl (lv_at hl 2 rfl) ?_
  refine pb_vR (As := [.int x, .int y]) (rest := [.ref (a 0)]) C hw.1 k_Md_isByte m_414 (c_Md_isByte l D a k n op tn mn th fl wr bl fd wh bf M x y hn64) rfl hl.1 0 2 rfl rfl rfl ⟨by decide, by decide⟩ ⟨Nat.zero_le _, Nat.zero_le _⟩ rfl (Nat.le_of_ble_eq_true rfl) d_Md_byteAt_4 (fun r4 h4 => ?_)
  rcases h4 with ⟨rfl, b, i, hbn, hi, rfl, rfl⟩ | ⟨rfl, h4⟩
  · refine pb_z (tgt := 14) (by decide) hx hb d_Md_byteAt_7 (by decide) (fun c_1 => absurd c_1 (by decide)) (fun _ => ?_)
    refine lv_iconst (v := nI 0) hx hb d_Md_byteAt_10 (by decide +kernel) ?_
    refine lv_goto (tgt := 15) hx hb d_Md_byteAt_11 (by decide) ?_
    refine md_p_thrown C hw d_Md_byteAt_15 (fun H locs hw => ?_)
    refine lv_aload_n hx hb d_Md_byteAt_18 rfl (lv_at hl 0 rfl) ?_
    refine md_g_thrown C hw.1 d_Md_byteAt_19 ?_
    refine pb_z (tgt := 29) (by decide) hx hb d_Md_byteAt_22 (by decide) (fun _ => ?_) (fun c_2 => absurd c_2 (by decide))
    refine lv_aload_n hx hb d_Md_byteAt_29 rfl (lv_at hl 0 rfl) ?_
    refine md_g_store C hw.1 d_Md_byteAt_30 ?_
    refine lv_bipush (v := nI 64) hx hb d_Md_byteAt_33 (by decide +kernel) ?_
    refine lv_iload_n hx hb d_Md_byteAt_35 rfl (lv_at hl 1 rfl) ?_
    refine pb_mul hx hb d_Md_byteAt_36 ?_
    refine lv_iload_n hx hb d_Md_byteAt_37 rfl (lv_at hl 2 rfl) ?_
    refine pb_add hx hb d_Md_byteAt_38 ?_
    refine md_lf (b := b) (i := i) C hw.1 (by omega) (by omega) (by omega) d_Md_byteAt_39 ?_
    exact kr _ _ _ _ _ 0 d_Md_byteAt_40 rfl hw (Or.inl ⟨b, i, ⟨hbn, hi, rfl, rfl⟩, rfl, rfl⟩)
  · refine pb_z (tgt := 14) (by decide) hx hb d_Md_byteAt_7 (by decide) (fun _ => ?_) (fun c_1 => absurd c_1 (by decide))
    refine lv_iconst (v := nI 1) hx hb d_Md_byteAt_14 (by decide +kernel) ?_
    refine md_p_thrown C hw d_Md_byteAt_15 (fun H locs hw => ?_)
    refine lv_aload_n hx hb d_Md_byteAt_18 rfl (lv_at hl 0 rfl) ?_
    refine md_g_thrown C hw.1 d_Md_byteAt_19 ?_
    refine pb_z (tgt := 29) (by decide) hx hb d_Md_byteAt_22 (by decide) (fun c_2 => absurd c_2 (by decide)) (fun _ => ?_)
    refine lv_iconst (v := nI 0) hx hb d_Md_byteAt_25 (by decide +kernel) ?_
    refine lv_goto (tgt := 40) hx hb d_Md_byteAt_26 (by decide) ?_
    exact kr _ _ _ _ _ 1 d_Md_byteAt_40 rfl hw (Or.inr ⟨h4, rfl, rfl⟩)
set_option maxHeartbeats 4000000 in
set_option maxRecDepth 100000 in
theorem c_Md_crash (l : Launch) (D : va_G) (a : Nat → Nat) (k : Nat → ClassId) (n : Nat) (op : Nat) (tn : Nat) (mn : Nat) (th : Nat) (fl : Nat) (wr : Nat) (bl : Nat → Nat) (fd : Nat → Nat) (wh : Nat → Nat) (bf : Nat → Nat) (M : Nat → Nat → Nat) (en lb lp lw : Nat → Nat) (x : Int32) (sz0 : Nat) (hn64 : n ≤ 64) (hn4 : 4 ≤ n) (hM : ∀ x j, M x j < 256) (hop : op ≤ 1) (ho : op = 1 → (∀ q, q < mn → bl q = en q) ∧ (∀ q, q < wr → wh q = 64 * lb q + lp q ∧ bf q = lw q) ∧ pb_inv n tn mn wr en lb lp lw) : Met l y_Md_crash (pb_ws y_Md_crash b_Md_crash 3 (some .boolean)) (pb_rm 0 0 0) (pb_P D k [.ref (a 0), .int x] (md_W a k n op tn mn th fl wr (pb_flat M) bl fd wh bf) sz0) (pb_QI D (md_W a k n op tn mn th fl wr (pb_flat M) bl fd wh bf) sz0 (fun (r : Int32) (u : Nat × Nat) => pb_crashs op wr x r u) (fun (u : Nat × Nat) => if u.1 = 1 then md_W a k n 0 tn mn 0 fl wr (pb_flat (pb_back lb lp lw u.2 (wr - u.2) M)) bl fd wh bf else md_W a k n op tn mn 0 fl wr (pb_flat M) bl fd wh bf)) 0 0 (va_A (md_W a k n op tn mn th fl wr (pb_flat M) bl fd wh bf) sz0) := by
  refine pb_mkI R_Md rfl (by decide) (Nat.le_of_ble_eq_true rfl) ?_
  intro p e R s m args below meth c Q A ls C hRc hA hw hl kr
  obtain ⟨H, hH⟩ : ∃ H : Heap, H = s.heap := ⟨_, rfl⟩
  obtain ⟨locs, hL⟩ : ∃ L : List Loc, L = [] := ⟨_, rfl⟩
  have hw : pb_W D A s.heap (md_W a k n op tn mn th fl wr (pb_flat M) bl fd wh bf) H locs := by rw [hH, hL]; exact hw
  rw [show W p l e R s m args below meth c s.heap [] 0 0 Q (F0 m 0 ls []) = W p l e R s m args below meth c H locs 0 0 Q (F0 m 0 ls []) by rw [hH, hL]]
  clear hH hL
  obtain ⟨hx, hb, hml, hown, hG, hkn, hR1, hR2⟩ := id C
  have hl : lv_has ls 3 [(0, .ref (a 0)), (1, .int x)] := hl
  refine lv_aload_n hx hb d_Md_crash_0 rfl (lv_at hl 0 rfl) ?_
  refine lv_iconst (v := nI 0) hx hb d_Md_crash_1 (by decide +kernel) ?_
  refine md_p_thrown C hw d_Md_crash_2 (fun H locs hw => ?_)
  refine lv_aload_n hx hb d_Md_crash_5 rfl (lv_at hl 0 rfl) ?_
  refine md_g_open C hw.1 d_Md_crash_6 ?_
  refine pb_z (tgt := 31) (by omega) hx hb d_Md_crash_9 (by decide) (fun c_1 => ?_) (fun c_1 => ?_)
  · refine lv_iconst (v := nI 0) hx hb d_Md_crash_31 (by decide +kernel) ?_
    exact kr _ _ _ _ _ (0, 0) d_Md_crash_32 rfl hw (Or.inl ⟨Or.inl c_1, rfl, rfl⟩)
  · obtain ⟨hbe, hlg, ht, hmn, hen0, hsz, hlog⟩ := ho (by omega)
    have hen : ∀ q, q < mn → en q < 64 := fun q h => by have := hen0 q h; omega
    have hop1 : op = 1 := by omega
    refine lv_aload_n hx hb d_Md_crash_12 rfl (lv_at hl 0 rfl) ?_
    refine md_g_written C hw.1 d_Md_crash_13 ?_
    refine pb_z (tgt := 31) (by omega) hx hb d_Md_crash_16 (by decide) (fun c_2 => ?_) (fun c_2 => ?_)
    · refine lv_iconst (v := nI 0) hx hb d_Md_crash_31 (by decide +kernel) ?_
      exact kr _ _ _ _ _ (0, 0) d_Md_crash_32 rfl hw (Or.inl ⟨Or.inr (Or.inl c_2), rfl, rfl⟩)
    · refine lv_iload_n hx hb d_Md_crash_19 rfl (lv_at hl 1 rfl) ?_
      refine lv_if_lt (tgt := 31) hx hb d_Md_crash_20 (by decide) (fun c_3 => ?_) (fun c_3 => ?_)
      · refine lv_iconst (v := nI 0) hx hb d_Md_crash_31 (by decide +kernel) ?_
        exact kr _ _ _ _ _ (0, 0) d_Md_crash_32 rfl hw (Or.inl ⟨Or.inr (Or.inr (Or.inl c_3)), rfl, rfl⟩)
      · refine lv_iload_n hx hb d_Md_crash_23 rfl (lv_at hl 1 rfl) ?_
        refine lv_aload_n hx hb d_Md_crash_24 rfl (lv_at hl 0 rfl) ?_
        refine md_g_written C hw.1 d_Md_crash_25 ?_
        refine lv_icmp_le (tgt := 33) hx hb d_Md_crash_28 (by decide) (fun c_4 => ?_) (fun c_4 => ?_)
        · obtain ⟨kp, hkp, rfl⟩ := pb_num (show wr < 2 ^ 31 by omega) c_3 (Int32.not_lt.mpr c_4)
          refine lv_aload_n hx hb d_Md_crash_33 rfl (lv_at hl 0 rfl) ?_
          refine md_g_written C hw.1 d_Md_crash_34 ?_
          refine lv_iconst (v := nI 1) hx hb d_Md_crash_37 (by decide +kernel) ?_
          refine lv_isub hx hb d_Md_crash_38 ?_
          refine pb_top (show (nI wr) - (nI 1) = pb_m wr from rfl) ?_
          refine lv_istore_n (lv' := [(2, .int (pb_m wr)), (0, .ref (a 0)), (1, .int (nI kp))]) hx hb d_Md_crash_39 rfl hl (by decide) rfl (fun ls hl => ?_)
          have loop40 : ∀ (fu : Nat) (j : Nat) (Mx : Nat → Nat → Nat) (H : Heap) (locs : List Loc) (ls : Array Slot), (kp ≤ j) → (j ≤ wr) → (j + 1 ≤ kp + fu) → (pb_back lb lp lw kp (j - kp) Mx = pb_back lb lp lw kp (wr - kp) M) → pb_W D A s.heap (md_W a k n op tn mn 0 fl wr (pb_flat Mx) bl fd wh bf) H locs → lv_has ls 3 [(2, .int (pb_m j)), (0, .ref (a 0)), (1, .int (nI kp))] → W p l e R s m args below meth c H locs 0 0 Q (F0 m 40 ls []) := by
            intro fu
            induction fu with
            | zero =>
              intro j Mx H locs ls h1 h2 hn hm
              exfalso
              omega
            | succ fu ih =>
              intro j Mx H locs ls h1 h2 hn hm hw hl
              refine lv_iload_n hx hb d_Md_crash_40 rfl (lv_at hl 0 rfl) ?_
              refine lv_iload_n hx hb d_Md_crash_41 rfl (lv_at hl 2 rfl) ?_
              refine lv_icmp_lt (tgt := 68) hx hb d_Md_crash_42 (by decide) (fun c_5 => ?_) (fun c_5 => ?_)
              · refine lv_aload_n hx hb d_Md_crash_68 rfl (lv_at hl 1 rfl) ?_
                refine lv_iconst (v := nI 0) hx hb d_Md_crash_69 (by decide +kernel) ?_
                refine md_p_open C hw (by omega) d_Md_crash_70 (fun H locs hw => ?_)
                refine lv_iconst (v := nI 1) hx hb d_Md_crash_73 (by decide +kernel) ?_
                have hM2 : Mx = pb_back lb lp lw kp (wr - kp) M := by
                  have hj : j ≤ kp := (pb_m_lt (by omega) (by omega)).mp c_5
                  rw [← hm, show j - kp = 0 by omega]; rfl
                rw [hM2] at hw
                exact kr _ _ _ _ _ (1, kp) d_Md_crash_74 rfl hw (Or.inr ⟨hop1, c_2, kp, hkp, rfl, rfl, rfl⟩)
              · have cj : kp < j := by
                  rcases Nat.lt_or_ge kp j with q | q
                  · exact q
                  · exact absurd ((pb_m_lt (by omega) (by omega)).mpr q) c_5
                obtain ⟨j', rfl⟩ : ∃ j', j = j' + 1 := ⟨j - 1, by omega⟩
                rw [pb_m_s] at hl
                have hlq := hlog j' (by omega)
                have hlp := hlg j' (by omega)
                refine lv_aload_n hx hb d_Md_crash_45 rfl (lv_at hl 1 rfl) ?_
                refine md_g_store C hw.1 d_Md_crash_46 ?_
                refine lv_aload_n hx hb d_Md_crash_49 rfl (lv_at hl 1 rfl) ?_
                refine md_g_where C hw.1 d_Md_crash_50 ?_
                refine lv_iload_n hx hb d_Md_crash_53 rfl (lv_at hl 0 rfl) ?_
                refine md_l_where C hw.1 (by omega) d_Md_crash_54 ?_
                refine lv_aload_n hx hb d_Md_crash_55 rfl (lv_at hl 1 rfl) ?_
                refine md_g_before C hw.1 d_Md_crash_56 ?_
                refine lv_iload_n hx hb d_Md_crash_59 rfl (lv_at hl 0 rfl) ?_
                refine md_l_before C hw.1 (by omega) d_Md_crash_60 ?_
                refine pb_top (show nI (bf j') = nI (lw j') from by rw [hlp.2]) ?_
                refine md_sf (b := lb j') (i := lp j') C hw (by omega) (by omega) (by omega) d_Md_crash_61 (fun H locs hw => ?_)
                refine lv_iinc (v := pb_m j') (lv' := [(2, .int (pb_m j')), (0, .ref (a 0)), (1, .int (nI kp))]) hx hb d_Md_crash_62 hl (k := 0) rfl (pb_m_dec _) (by decide) rfl (fun ls hl => ?_)
                refine lv_goto (tgt := 40) hx hb d_Md_crash_65 (by decide) ?_
                exact ih j' (pb_put1 Mx (lb j') (lp j') (lw j')) _ _ _ (by omega) (by omega) (by omega) (by rw [pb_back_s (by omega)] at hm; exact hm) hw (lv_sub hl [0, 1, 2] rfl)
          exact loop40 (wr + 1) wr M _ _ _ (by omega) (by omega) (by omega) rfl hw (lv_sub hl [0, 1, 2] rfl)
        · refine lv_iconst (v := nI 0) hx hb d_Md_crash_31 (by decide +kernel) ?_
          exact kr _ _ _ _ _ (0, 0) d_Md_crash_32 rfl hw (Or.inl ⟨Or.inr (Or.inr (Or.inr (Int32.not_le.mp c_4))), rfl, rfl⟩)
end
section
-- ===== put, drop, reopen of the reference (by gen/m8.py) =====
set_option maxHeartbeats 4000000 in
set_option maxRecDepth 100000 in
theorem c_Md_drop (l : Launch) (D : va_G) (a : Nat → Nat) (k : Nat → ClassId) (n : Nat) (op : Nat) (tn : Nat) (mn : Nat) (th : Nat) (fl : Nat) (wr : Nat) (bl : Nat → Nat) (fd : Nat → Nat) (wh : Nat → Nat) (bf : Nat → Nat) (M : Nat → Nat → Nat) (en lb lp lw : Nat → Nat) (x : Int32) (sz0 : Nat) (hn64 : n ≤ 64) (hn4 : 4 ≤ n) (hM : ∀ x j, M x j < 256) (hop : op ≤ 1) (ho : op = 1 → (∀ q, q < mn → bl q = en q) ∧ (∀ q, q < wr → wh q = 64 * lb q + lp q ∧ bf q = lw q) ∧ pb_inv n tn mn wr en lb lp lw) : Met l y_Md_drop (pb_ws y_Md_drop b_Md_drop 3 (some .boolean)) (pb_rm 3 0 0) (pb_P D k [.ref (a 0), .int x] (md_W a k n op tn mn th fl wr (pb_flat M) bl fd wh bf) sz0) (pb_QI D (md_W a k n op tn mn th fl wr (pb_flat M) bl fd wh bf) sz0 (fun (r : Int32) (u : Nat × Nat) => pb_drops op mn x r u) (fun (u : Nat × Nat) => if u.1 = 1 then md_W a k n op (3 - tn) (mn - 1) 0 fl 65 (pb_flat (pb_turnM M tn (pb_seal (pb_root mn en u.2)))) (pb_gone bl u.2 mn) fd (pb_turnh wh 0 tn) (pb_turnw bf M 0 tn (pb_seal (pb_root mn en u.2))) else md_W a k n op tn mn 0 fl wr (pb_flat M) bl fd wh bf)) 0 0 (va_A (md_W a k n op tn mn th fl wr (pb_flat M) bl fd wh bf) sz0) := by
  refine pb_mkI R_Md rfl (by decide) (Nat.le_of_ble_eq_true rfl) ?_
  intro p e R s m args below meth c Q A ls C hRc hA hw hl kr
  obtain ⟨H, hH⟩ : ∃ H : Heap, H = s.heap := ⟨_, rfl⟩
  obtain ⟨locs, hL⟩ : ∃ L : List Loc, L = [] := ⟨_, rfl⟩
  have hw : pb_W D A s.heap (md_W a k n op tn mn th fl wr (pb_flat M) bl fd wh bf) H locs := by rw [hH, hL]; exact hw
  rw [show W p l e R s m args below meth c s.heap [] 0 0 Q (F0 m 0 ls []) = W p l e R s m args below meth c H locs 0 0 Q (F0 m 0 ls []) by rw [hH, hL]]
  clear hH hL
  obtain ⟨hx, hb, hml, hown, hG, hkn, hR1, hR2⟩ := id C
  have hl : lv_has ls 3 [(0, .ref (a 0)), (1, .int x)] := hl
  refine lv_aload_n hx hb d_Md_drop_0 rfl (lv_at hl 0 rfl) ?_
  refine lv_iconst (v := nI 0) hx hb d_Md_drop_1 (by decide +kernel) ?_
  refine md_p_thrown C hw d_Md_drop_2 (fun H locs hw => ?_)
  refine lv_aload_n hx hb d_Md_drop_5 rfl (lv_at hl 0 rfl) ?_
  refine md_g_open C hw.1 d_Md_drop_6 ?_
  refine pb_z (tgt := 24) (by omega) hx hb d_Md_drop_9 (by decide) (fun c_1 => ?_) (fun c_1 => ?_)
  · refine lv_iconst (v := nI 0) hx hb d_Md_drop_24 (by decide +kernel) ?_
    exact kr _ _ _ _ _ (0, 0) d_Md_drop_25 rfl hw (Or.inl ⟨Or.inl c_1, rfl, rfl⟩)
  · obtain ⟨hbe, hlg, ht, hmn, hen0, hsz, hlog⟩ := ho (by omega)
    have hen : ∀ q, q < mn → en q < 64 := fun q h => by have := hen0 q h; omega
    have hop1 : op = 1 := by omega
    refine lv_iload_n hx hb d_Md_drop_12 rfl (lv_at hl 1 rfl) ?_
    refine lv_if_lt (tgt := 24) hx hb d_Md_drop_13 (by decide) (fun c_2 => ?_) (fun c_2 => ?_)
    · refine lv_iconst (v := nI 0) hx hb d_Md_drop_24 (by decide +kernel) ?_
      exact kr _ _ _ _ _ (0, 0) d_Md_drop_25 rfl hw (Or.inl ⟨Or.inr (Or.inl c_2), rfl, rfl⟩)
    · refine lv_iload_n hx hb d_Md_drop_16 rfl (lv_at hl 1 rfl) ?_
      refine lv_aload_n hx hb d_Md_drop_17 rfl (lv_at hl 0 rfl) ?_
      refine md_g_entries C hw.1 d_Md_drop_18 ?_
      refine lv_icmp_lt (tgt := 26) hx hb d_Md_drop_21 (by decide) (fun c_3 => ?_) (fun c_3 => ?_)
      · obtain ⟨q, hq, rfl⟩ := pb_num_lt (by omega) c_2 c_3
        have hbu : ∀ z, z < 64 → (nI z = nI q ↔ z = q) := fun z hz => nI_eq (by omega) (by omega)
        refine lv_aload_n hx hb d_Md_drop_26 rfl (lv_at hl 0 rfl) ?_
        refine lv_iconst (v := nI 0) hx hb d_Md_drop_27 (by decide +kernel) ?_
        refine md_p_written C hw d_Md_drop_28 (fun H locs hw => ?_)
        refine lv_aload_n hx hb d_Md_drop_31 rfl (lv_at hl 0 rfl) ?_
        refine lv_iconst (v := nI 3) hx hb d_Md_drop_32 (by decide +kernel) ?_
        refine lv_aload_n hx hb d_Md_drop_33 rfl (lv_at hl 0 rfl) ?_
        refine md_g_turn C hw.1 d_Md_drop_34 ?_
        refine pb_sub (by omega) hx hb d_Md_drop_37 ?_
        refine lv_iload_n hx hb d_Md_drop_38 rfl (lv_at hl 1 rfl) ?_
        refine pb_vV (As := [.int (nI (3 - tn)), .int (nI q)]) (rest := []) C hA hw k_Md_writeRoot m_283 (c_Md_writeRoot l D a k n op tn mn 0 fl 0 bl fd wh bf M (3 - tn) (nI q) q en (pb_seal (pb_root mn en q)) _ (by omega) hmn hbu (Or.inr ⟨rfl, hq⟩) hbe (fun j hj => pb_seal_in hj) (fun j hj => pb_seal_end hj) (by omega)) rfl hl.1 0 2 rfl rfl rfl ⟨by decide, by decide⟩ ⟨Nat.zero_le _, Nat.zero_le _⟩ rfl (Nat.le_of_ble_eq_true rfl) d_Md_drop_39 (fun u39 H locs h39 hw => ?_)
        refine lv_aload_n hx hb d_Md_drop_42 rfl (lv_at hl 0 rfl) ?_
        refine lv_iconst (v := nI 3) hx hb d_Md_drop_43 (by decide +kernel) ?_
        refine lv_aload_n hx hb d_Md_drop_44 rfl (lv_at hl 0 rfl) ?_
        refine md_g_turn C hw.1 d_Md_drop_45 ?_
        refine pb_sub (by omega) hx hb d_Md_drop_48 ?_
        refine pb_vV (As := [.int (nI (3 - tn))]) (rest := []) C hA hw k_Md_turnTo m_370 (c_Md_turnTo l D a k n op tn mn 0 fl (0 + 64) bl fd (pb_fill wh 0 64 (fun j => 64 * (3 - tn) + j)) (pb_fill bf 0 64 (fun j => M (3 - tn) j)) (pb_rowf M (3 - tn) 64 (pb_seal (pb_root mn en q))) (3 - tn) _ (by omega)) rfl hl.1 0 2 rfl rfl rfl ⟨by decide, by decide⟩ ⟨Nat.zero_le _, Nat.zero_le _⟩ rfl (Nat.le_of_ble_eq_true rfl) d_Md_drop_49 (fun u49 H locs h49 hw => ?_)
        refine lv_aload_n hx hb d_Md_drop_52 rfl (lv_at hl 0 rfl) ?_
        refine lv_dup hx hb d_Md_drop_53 rfl ?_
        refine md_g_entries C hw.1 d_Md_drop_54 ?_
        refine lv_iconst (v := nI 1) hx hb d_Md_drop_57 (by decide +kernel) ?_
        refine pb_sub (by omega) hx hb d_Md_drop_58 ?_
        refine md_p_entries C hw d_Md_drop_59 (fun H locs hw => ?_)
        refine lv_iload_n hx hb d_Md_drop_62 rfl (lv_at hl 1 rfl) ?_
        refine lv_istore_n (lv' := [(2, .int (nI q)), (0, .ref (a 0)), (1, .int (nI q))]) hx hb d_Md_drop_63 rfl hl (by decide) rfl (fun ls hl => ?_)
        have loop64 : ∀ (fu : Nat) (p2 i : Nat) (H : Heap) (locs : List Loc) (ls : Array Slot), (p2 = q + i) → (p2 ≤ mn - 1) → (mn ≤ p2 + fu) → pb_W D A s.heap (md_W a k n op (3 - tn) (mn - 1) 0 fl (0 + 64 + 1) (pb_flat (pb_put1 (pb_rowf M (3 - tn) 64 (pb_seal (pb_root mn en q))) 0 0 (3 - tn))) (pb_fill bl q i (fun j => bl (q + j + 1))) fd (va_up (pb_fill wh 0 64 (fun j => 64 * (3 - tn) + j)) (0 + 64) 0) (va_up (pb_fill bf 0 64 (fun j => M (3 - tn) j)) (0 + 64) ((pb_rowf M (3 - tn) 64 (pb_seal (pb_root mn en q))) 0 0))) H locs → lv_has ls 3 [(2, .int (nI p2)), (0, .ref (a 0)), (1, .int (nI q))] → W p l e R s m args below meth c H locs 0 0 Q (F0 m 64 ls []) := by
          intro fu
          induction fu with
          | zero =>
            intro p2 i H locs ls hp h1 hn
            exfalso
            omega
          | succ fu ih =>
            intro p2 i H locs ls hp h1 hn hw hl
            refine lv_iload_n hx hb d_Md_drop_64 rfl (lv_at hl 0 rfl) ?_
            refine lv_aload_n hx hb d_Md_drop_65 rfl (lv_at hl 1 rfl) ?_
            refine md_g_entries C hw.1 d_Md_drop_66 ?_
            refine pb_ge (tgt := 92) (by omega) (by omega) hx hb d_Md_drop_69 (by decide) (fun c_4 => ?_) (fun c_4 => ?_)
            · refine lv_iconst (v := nI 1) hx hb d_Md_drop_92 (by decide +kernel) ?_
              have e3 : pb_fill bl q i (fun j => bl (q + j + 1)) = pb_gone bl q mn := by unfold pb_gone; rw [show i = mn - 1 - q by omega]
              rw [e3] at hw
              exact kr _ _ _ _ _ (1, q) d_Md_drop_93 rfl hw (Or.inr ⟨hop1, q, hq, rfl, rfl, rfl⟩)
            · refine lv_aload_n hx hb d_Md_drop_72 rfl (lv_at hl 1 rfl) ?_
              refine md_g_block C hw.1 d_Md_drop_73 ?_
              refine lv_iload_n hx hb d_Md_drop_76 rfl (lv_at hl 0 rfl) ?_
              refine lv_aload_n hx hb d_Md_drop_77 rfl (lv_at hl 1 rfl) ?_
              refine md_g_block C hw.1 d_Md_drop_78 ?_
              refine lv_iload_n hx hb d_Md_drop_81 rfl (lv_at hl 0 rfl) ?_
              refine lv_iconst (v := nI 1) hx hb d_Md_drop_82 (by decide +kernel) ?_
              refine pb_add hx hb d_Md_drop_83 ?_
              refine md_l_block C hw.1 (by omega) d_Md_drop_84 ?_
              refine md_s_block C hw (by omega) d_Md_drop_85 (fun H locs hw => ?_)
              refine lv_iinc (v := nI (p2 + 1)) (lv' := [(2, .int (nI (p2 + 1))), (0, .ref (a 0)), (1, .int (nI q))]) hx hb d_Md_drop_86 hl (k := 0) rfl (pb_i1 _) (by decide) rfl (fun ls hl => ?_)
              refine lv_goto (tgt := 64) hx hb d_Md_drop_89 (by decide) ?_
              exact ih (p2 + 1) (i + 1) _ _ _ (by omega) (by omega) (by omega) (by rw [pb_fill_out (q := p2 + 1) (by omega), hp] at hw; rw [← pb_fill_s bl q i]; exact hw) (lv_sub hl [0, 1, 2] rfl)
        exact loop64 mn q 0 _ _ _ rfl (by omega) (by omega) (by rw [pb_fill_0]; exact hw) (lv_sub hl [0, 1, 2] rfl)
      · refine lv_iconst (v := nI 0) hx hb d_Md_drop_24 (by decide +kernel) ?_
        exact kr _ _ _ _ _ (0, 0) d_Md_drop_25 rfl hw (Or.inl ⟨Or.inr (Or.inr (Int32.not_lt.mp c_3)), rfl, rfl⟩)
set_option maxHeartbeats 4000000 in
set_option maxRecDepth 100000 in
theorem c_Md_put (l : Launch) (D : va_G) (a : Nat → Nat) (k : Nat → ClassId) (n : Nat) (op : Nat) (tn : Nat) (mn : Nat) (th : Nat) (fl : Nat) (wr : Nat) (bl : Nat → Nat) (fd : Nat → Nat) (wh : Nat → Nat) (bf : Nat → Nat) (M : Nat → Nat → Nat) (en lb lp lw : Nat → Nat) (x : Int32) (sz0 : Nat) (hn64 : n ≤ 64) (hn4 : 4 ≤ n) (hM : ∀ x j, M x j < 256) (hfs : fl ≤ 48) (hfd : ∀ j, fd j < 256) (hop : op ≤ 1) (ho : op = 1 → (∀ q, q < mn → bl q = en q) ∧ (∀ q, q < wr → wh q = 64 * lb q + lp q ∧ bf q = lw q) ∧ pb_inv n tn mn wr en lb lp lw) : Met l y_Md_put (pb_ws y_Md_put b_Md_put 3 (some .int)) (pb_rm 3 0 0) (pb_P D k [.ref (a 0), .int x] (md_W a k n op tn mn th fl wr (pb_flat M) bl fd wh bf) sz0) (pb_QI D (md_W a k n op tn mn th fl wr (pb_flat M) bl fd wh bf) sz0 (fun (r : Int32) (u : Nat × Nat × Nat) => pb_puts n op mn fl fd en M x r u) (fun (u : Nat × Nat × Nat) => if u.1 = 2 then md_W a k n op (3 - tn) (mn + 1) 0 0 129 (pb_flat (pb_turnM (pb_rowf M u.2.2 64 (pb_pe u.2.1 fl fd)) tn (pb_pr mn en u.2.2))) (va_up bl mn u.2.2) fd (pb_turnh (pb_fill wh 0 64 (fun j => 64 * u.2.2 + j)) 64 tn) (pb_turnw (pb_fill bf 0 64 (fun j => M u.2.2 j)) (pb_rowf M u.2.2 64 (pb_pe u.2.1 fl fd)) 64 tn (pb_pr mn en u.2.2)) else if u.1 = 1 then md_W a k n op tn mn 0 0 wr (pb_flat M) bl fd wh bf else md_W a k n op tn mn 0 fl wr (pb_flat M) bl fd wh bf)) 0 0 (va_A (md_W a k n op tn mn th fl wr (pb_flat M) bl fd wh bf) sz0) := by
  refine pb_mkI R_Md rfl (by decide) (Nat.le_of_ble_eq_true rfl) ?_
  intro p e R s m args below meth c Q A ls C hRc hA hw hl kr
  obtain ⟨H, hH⟩ : ∃ H : Heap, H = s.heap := ⟨_, rfl⟩
  obtain ⟨locs, hL⟩ : ∃ L : List Loc, L = [] := ⟨_, rfl⟩
  have hw : pb_W D A s.heap (md_W a k n op tn mn th fl wr (pb_flat M) bl fd wh bf) H locs := by rw [hH, hL]; exact hw
  rw [show W p l e R s m args below meth c s.heap [] 0 0 Q (F0 m 0 ls []) = W p l e R s m args below meth c H locs 0 0 Q (F0 m 0 ls []) by rw [hH, hL]]
  clear hH hL
  obtain ⟨hx, hb, hml, hown, hG, hkn, hR1, hR2⟩ := id C
  have hl : lv_has ls 3 [(0, .ref (a 0)), (1, .int x)] := hl
  refine lv_aload_n hx hb d_Md_put_0 rfl (lv_at hl 0 rfl) ?_
  refine lv_iconst (v := nI 0) hx hb d_Md_put_1 (by decide +kernel) ?_
  refine md_p_thrown C hw d_Md_put_2 (fun H locs hw => ?_)
  refine lv_aload_n hx hb d_Md_put_5 rfl (lv_at hl 0 rfl) ?_
  refine md_g_open C hw.1 d_Md_put_6 ?_
  refine pb_z (tgt := 29) (by omega) hx hb d_Md_put_9 (by decide) (fun c_1 => ?_) (fun c_1 => ?_)
  · refine lv_iconst (v := -1) hx hb d_Md_put_29 (by decide +kernel) ?_
    exact kr _ _ _ _ _ (0, 0, 0) d_Md_put_30 rfl hw (Or.inl ⟨Or.inl c_1, rfl, rfl⟩)
  · obtain ⟨hbe, hlg, ht, hmn, hen0, hsz, hlog⟩ := ho (by omega)
    have hen : ∀ q, q < mn → en q < 64 := fun q h => by have := hen0 q h; omega
    have hop1 : op = 1 := by omega
    refine lv_iload_n hx hb d_Md_put_12 rfl (lv_at hl 1 rfl) ?_
    refine lv_if_lt (tgt := 29) hx hb d_Md_put_13 (by decide) (fun c_2 => ?_) (fun c_2 => ?_)
    · refine lv_iconst (v := -1) hx hb d_Md_put_29 (by decide +kernel) ?_
      exact kr _ _ _ _ _ (0, 0, 0) d_Md_put_30 rfl hw (Or.inl ⟨Or.inr (Or.inl c_2), rfl, rfl⟩)
    · refine lv_iload_n hx hb d_Md_put_16 rfl (lv_at hl 1 rfl) ?_
      refine lv_ldc (v := (65535 : Int32)) hx hb hown (hG _ m_349) d_Md_put_17 ?_
      refine pb_top (show (65535 : Int32) = nI 65535 by decide +kernel) ?_
      refine lv_icmp_gt (tgt := 29) hx hb d_Md_put_19 (by decide) (fun c_3 => ?_) (fun c_3 => ?_)
      · refine lv_iconst (v := -1) hx hb d_Md_put_29 (by decide +kernel) ?_
        exact kr _ _ _ _ _ (0, 0, 0) d_Md_put_30 rfl hw (Or.inl ⟨Or.inr (Or.inr (Or.inl c_3)), rfl, rfl⟩)
      · obtain ⟨v, hv, rfl⟩ := pb_num (by decide) c_2 c_3
        refine lv_aload_n hx hb d_Md_put_22 rfl (lv_at hl 0 rfl) ?_
        refine md_g_fedLong C hw.1 d_Md_put_23 ?_
        refine pb_nz (tgt := 31) (by omega) hx hb d_Md_put_26 (by decide) (fun c_4 => ?_) (fun c_4 => ?_)
        · refine lv_iconst (v := nI 0) hx hb d_Md_put_31 (by decide +kernel) ?_
          refine lv_istore_n (lv' := [(2, .int (nI 0)), (0, .ref (a 0)), (1, .int (nI v))]) hx hb d_Md_put_32 rfl hl (by decide) rfl (fun ls hl => ?_)
          have loop33 : ∀ (fu : Nat) (q : Nat) (H : Heap) (locs : List Loc) (ls : Array Slot), (q ≤ mn) → (mn + 1 ≤ q + fu) → (∀ q', q' < q → ¬ pb_same M fl fd (en q')) → pb_W D A s.heap (md_W a k n op tn mn 0 fl wr (pb_flat M) bl fd wh bf) H locs → lv_has ls 3 [(2, .int (nI q)), (0, .ref (a 0)), (1, .int (nI v))] → W p l e R s m args below meth c H locs 0 0 Q (F0 m 33 ls []) := by
            intro fu
            induction fu with
            | zero =>
              intro q H locs ls h1 hn hs
              exfalso
              omega
            | succ fu ih =>
              intro q H locs ls h1 hn hs hw hl
              refine lv_iload_n hx hb d_Md_put_33 rfl (lv_at hl 0 rfl) ?_
              refine lv_aload_n hx hb d_Md_put_34 rfl (lv_at hl 1 rfl) ?_
              refine md_g_entries C hw.1 d_Md_put_35 ?_
              refine pb_ge (tgt := 62) (by omega) (by omega) hx hb d_Md_put_38 (by decide) (fun c_5 => ?_) (fun c_5 => ?_)
              · refine lv_aload_n hx hb d_Md_put_62 rfl (lv_at hl 1 rfl) ?_
                refine pb_vR (As := []) (rest := []) C hw.1 k_Md_leastFree m_358 (c_Md_leastFree l D a k n op tn mn 0 fl wr bl fd wh bf M en hn64 hn4 hmn hbe hen) rfl hl.1 0 2 rfl rfl rfl ⟨by decide, by decide⟩ ⟨Nat.zero_le _, Nat.zero_le _⟩ rfl (Nat.le_of_ble_eq_true rfl) d_Md_put_63 (fun r63 h63 => ?_)
                rcases h63 with ⟨fb, rfl, h63⟩ | ⟨rfl, h63⟩
                · refine lv_istore_n (lv' := [(2, .int (nI fb)), (0, .ref (a 0)), (1, .int (nI v))]) hx hb d_Md_put_66 rfl hl (by decide) rfl (fun ls hl => ?_)
                  refine lv_aload_n hx hb d_Md_put_67 rfl (lv_at hl 1 rfl) ?_
                  refine md_g_entries C hw.1 d_Md_put_68 ?_
                  refine lv_bipush (v := nI 40) hx hb d_Md_put_71 (by decide +kernel) ?_
                  refine pb_eq (tgt := 80) (by omega) (by omega) hx hb d_Md_put_73 (by decide) (fun c_6 => ?_) (fun c_6 => ?_)
                  · refine lv_iconst (v := -1) hx hb d_Md_put_80 (by decide +kernel) ?_
                    exact kr _ _ _ _ _ (0, 0, 0) d_Md_put_81 rfl hw (Or.inr ⟨hop1, c_4, v, by omega, rfl, Or.inr (Or.inl ⟨fun z hz => hs z (by omega), Or.inl c_6, rfl, rfl⟩)⟩)
                  · refine lv_iload_n hx hb d_Md_put_76 rfl (lv_at hl 0 rfl) ?_
                    refine lv_if_ge (tgt := 82) hx hb d_Md_put_77 (by decide) (fun _ => ?_) (fun c_7 => absurd (nI_pos' (by have := h63.2.1; omega)) c_7)
                    have hfr := h63
                    obtain ⟨f3, fn, -, -⟩ := hfr
                    have hbe2 : ∀ z, z < mn + 1 → va_up bl mn fb z = va_up en mn fb z := by
                      intro z hz
                      unfold va_up
                      split
                      · rfl
                      · exact hbe z (by omega)
                    refine lv_aload_n hx hb d_Md_put_82 rfl (lv_at hl 1 rfl) ?_
                    refine lv_iconst (v := nI 0) hx hb d_Md_put_83 (by decide +kernel) ?_
                    refine md_p_written C hw d_Md_put_84 (fun H locs hw => ?_)
                    refine lv_aload_n hx hb d_Md_put_87 rfl (lv_at hl 1 rfl) ?_
                    refine lv_iload_n hx hb d_Md_put_88 rfl (lv_at hl 0 rfl) ?_
                    refine lv_iload_n hx hb d_Md_put_89 rfl (lv_at hl 2 rfl) ?_
                    refine pb_vV (As := [.int (nI fb), .int (nI v)]) (rest := []) C hA hw k_Md_writeEntry m_366 (c_Md_writeEntry l D a k n op tn mn 0 fl 0 bl fd wh bf M fb v (pb_pe v fl fd) _ (by omega) (by omega) hfs (fun j hj => pb_seal_in hj) (fun j hj => pb_seal_end hj) (by omega)) rfl hl.1 0 2 rfl rfl rfl ⟨by decide, by decide⟩ ⟨Nat.zero_le _, Nat.zero_le _⟩ rfl (Nat.le_of_ble_eq_true rfl) d_Md_put_90 (fun u90 H locs h90 hw => ?_)
                    refine lv_aload_n hx hb d_Md_put_93 rfl (lv_at hl 1 rfl) ?_
                    refine md_g_block C hw.1 d_Md_put_94 ?_
                    refine lv_aload_n hx hb d_Md_put_97 rfl (lv_at hl 1 rfl) ?_
                    refine md_g_entries C hw.1 d_Md_put_98 ?_
                    refine lv_iload_n hx hb d_Md_put_101 rfl (lv_at hl 0 rfl) ?_
                    refine md_s_block C hw (by omega) d_Md_put_102 (fun H locs hw => ?_)
                    refine lv_aload_n hx hb d_Md_put_103 rfl (lv_at hl 1 rfl) ?_
                    refine lv_dup hx hb d_Md_put_104 rfl ?_
                    refine md_g_entries C hw.1 d_Md_put_105 ?_
                    refine lv_iconst (v := nI 1) hx hb d_Md_put_108 (by decide +kernel) ?_
                    refine pb_add hx hb d_Md_put_109 ?_
                    refine md_p_entries C hw d_Md_put_110 (fun H locs hw => ?_)
                    refine lv_aload_n hx hb d_Md_put_113 rfl (lv_at hl 1 rfl) ?_
                    refine lv_iconst (v := nI 3) hx hb d_Md_put_114 (by decide +kernel) ?_
                    refine lv_aload_n hx hb d_Md_put_115 rfl (lv_at hl 1 rfl) ?_
                    refine md_g_turn C hw.1 d_Md_put_116 ?_
                    refine pb_sub (by omega) hx hb d_Md_put_119 ?_
                    refine lv_iconst (v := -1) hx hb d_Md_put_120 (by decide +kernel) ?_
                    refine pb_vV (As := [.int (nI (3 - tn)), .int (-1)]) (rest := []) C hA hw k_Md_writeRoot m_283 (c_Md_writeRoot l D a k n op tn (mn + 1) 0 fl (0 + 64) (va_up bl mn fb) fd (pb_fill wh 0 64 (fun j => 64 * fb + j)) (pb_fill bf 0 64 (fun j => M fb j)) (pb_rowf M fb 64 (pb_pe v fl fd)) (3 - tn) (-1) 64 (va_up en mn fb) (pb_pr mn en fb) _ (by omega) (by omega) (fun z hz => ⟨fun g => absurd g (pb_ne_m1 (by omega)), fun g => by omega⟩) (Or.inl ⟨by decide +kernel, by omega⟩) hbe2 (fun j hj => pb_seal_in hj) (fun j hj => pb_seal_end hj) (by omega)) rfl hl.1 0 2 rfl rfl rfl ⟨by decide, by decide⟩ ⟨Nat.zero_le _, Nat.zero_le _⟩ rfl (Nat.le_of_ble_eq_true rfl) d_Md_put_121 (fun u121 H locs h121 hw => ?_)
                    refine lv_aload_n hx hb d_Md_put_124 rfl (lv_at hl 1 rfl) ?_
                    refine lv_iconst (v := nI 3) hx hb d_Md_put_125 (by decide +kernel) ?_
                    refine lv_aload_n hx hb d_Md_put_126 rfl (lv_at hl 1 rfl) ?_
                    refine md_g_turn C hw.1 d_Md_put_127 ?_
                    refine pb_sub (by omega) hx hb d_Md_put_130 ?_
                    refine pb_vV (As := [.int (nI (3 - tn))]) (rest := []) C hA hw k_Md_turnTo m_370 (c_Md_turnTo l D a k n op tn (mn + 1) 0 fl (0 + 64 + 64) (va_up bl mn fb) fd (pb_fill (pb_fill wh 0 64 (fun j => 64 * fb + j)) (0 + 64) 64 (fun j => 64 * (3 - tn) + j)) (pb_fill (pb_fill bf 0 64 (fun j => M fb j)) (0 + 64) 64 (fun j => (pb_rowf M fb 64 (pb_pe v fl fd)) (3 - tn) j)) (pb_rowf (pb_rowf M fb 64 (pb_pe v fl fd)) (3 - tn) 64 (pb_pr mn en fb)) (3 - tn) _ (by omega)) rfl hl.1 0 2 rfl rfl rfl ⟨by decide, by decide⟩ ⟨Nat.zero_le _, Nat.zero_le _⟩ rfl (Nat.le_of_ble_eq_true rfl) d_Md_put_131 (fun u131 H locs h131 hw => ?_)
                    refine lv_aload_n hx hb d_Md_put_134 rfl (lv_at hl 1 rfl) ?_
                    refine lv_iconst (v := nI 0) hx hb d_Md_put_135 (by decide +kernel) ?_
                    refine md_p_fedLong C hw d_Md_put_136 (fun H locs hw => ?_)
                    refine lv_aload_n hx hb d_Md_put_139 rfl (lv_at hl 1 rfl) ?_
                    refine md_g_entries C hw.1 d_Md_put_140 ?_
                    refine lv_iconst (v := nI 1) hx hb d_Md_put_143 (by decide +kernel) ?_
                    refine pb_sub (by omega) hx hb d_Md_put_144 ?_
                    exact kr _ _ _ _ _ (2, v, fb) d_Md_put_145 rfl hw (Or.inr ⟨hop1, c_4, v, by omega, rfl, Or.inr (Or.inr ⟨fun z hz => hs z (by omega), by omega, fb, h63, rfl, rfl⟩)⟩)
                · refine lv_istore_n (lv' := [(2, .int (-1)), (0, .ref (a 0)), (1, .int (nI v))]) hx hb d_Md_put_66 rfl hl (by decide) rfl (fun ls hl => ?_)
                  refine lv_aload_n hx hb d_Md_put_67 rfl (lv_at hl 1 rfl) ?_
                  refine md_g_entries C hw.1 d_Md_put_68 ?_
                  refine lv_bipush (v := nI 40) hx hb d_Md_put_71 (by decide +kernel) ?_
                  refine pb_eq (tgt := 80) (by omega) (by omega) hx hb d_Md_put_73 (by decide) (fun c_6 => ?_) (fun c_6 => ?_)
                  · refine lv_iconst (v := -1) hx hb d_Md_put_80 (by decide +kernel) ?_
                    exact kr _ _ _ _ _ (0, 0, 0) d_Md_put_81 rfl hw (Or.inr ⟨hop1, c_4, v, by omega, rfl, Or.inr (Or.inl ⟨fun z hz => hs z (by omega), Or.inl c_6, rfl, rfl⟩)⟩)
                  · refine lv_iload_n hx hb d_Md_put_76 rfl (lv_at hl 0 rfl) ?_
                    refine lv_if_ge (tgt := 82) hx hb d_Md_put_77 (by decide) (fun c_7 => absurd c_7 (by decide)) (fun _ => ?_)
                    refine lv_iconst (v := -1) hx hb d_Md_put_80 (by decide +kernel) ?_
                    exact kr _ _ _ _ _ (0, 0, 0) d_Md_put_81 rfl hw (Or.inr ⟨hop1, c_4, v, by omega, rfl, Or.inr (Or.inl ⟨fun z hz => hs z (by omega), Or.inr h63, rfl, rfl⟩)⟩)
              · refine lv_aload_n hx hb d_Md_put_41 rfl (lv_at hl 1 rfl) ?_
                refine lv_iload_n hx hb d_Md_put_42 rfl (lv_at hl 0 rfl) ?_
                refine pb_vR (As := [.int (nI q)]) (rest := []) C hw.1 k_Md_hasFed m_350 (c_Md_hasFed l D a k n op tn mn 0 fl wr bl fd wh bf M en q (by omega) hmn hbe hen hM hfs hfd) rfl hl.1 0 2 rfl rfl rfl ⟨by decide, by decide⟩ ⟨Nat.zero_le _, Nat.zero_le _⟩ rfl (Nat.le_of_ble_eq_true rfl) d_Md_put_43 (fun r43 h43 => ?_)
                rcases h43 with ⟨rfl, h43⟩ | ⟨rfl, h43⟩
                · refine pb_z (tgt := 56) (by decide) hx hb d_Md_put_46 (by decide) (fun c_6 => absurd c_6 (by decide)) (fun _ => ?_)
                  refine lv_aload_n hx hb d_Md_put_49 rfl (lv_at hl 1 rfl) ?_
                  refine lv_iconst (v := nI 0) hx hb d_Md_put_50 (by decide +kernel) ?_
                  refine md_p_fedLong C hw d_Md_put_51 (fun H locs hw => ?_)
                  refine lv_iload_n hx hb d_Md_put_54 rfl (lv_at hl 0 rfl) ?_
                  exact kr _ _ _ _ _ (1, 0, 0) d_Md_put_55 rfl hw (Or.inr ⟨hop1, c_4, v, by omega, rfl, Or.inl ⟨q, by omega, h43, hs, rfl, rfl⟩⟩)
                · refine pb_z (tgt := 56) (by decide) hx hb d_Md_put_46 (by decide) (fun _ => ?_) (fun c_6 => absurd c_6 (by decide))
                  refine lv_iinc (v := nI (q + 1)) (lv' := [(2, .int (nI (q + 1))), (0, .ref (a 0)), (1, .int (nI v))]) hx hb d_Md_put_56 hl (k := 0) rfl (pb_i1 _) (by decide) rfl (fun ls hl => ?_)
                  refine lv_goto (tgt := 33) hx hb d_Md_put_59 (by decide) ?_
                  exact ih (q + 1) _ _ _ (by omega) (by omega) (fun j hj => by rcases Nat.lt_succ_iff_lt_or_eq.mp hj with z | z; exact hs j z; subst z; exact h43) hw (lv_sub hl [0, 1, 2] rfl)
          exact loop33 (mn + 1) 0 _ _ _ (by omega) (by omega) (fun j hj => absurd hj (Nat.not_lt_zero j)) hw (lv_sub hl [0, 1, 2] rfl)
        · refine lv_iconst (v := -1) hx hb d_Md_put_29 (by decide +kernel) ?_
          exact kr _ _ _ _ _ (0, 0, 0) d_Md_put_30 rfl hw (Or.inl ⟨Or.inr (Or.inr (Or.inr c_4)), rfl, rfl⟩)
set_option maxHeartbeats 4000000 in
set_option maxRecDepth 100000 in
theorem c_Md_reopen (l : Launch) (D : va_G) (a : Nat → Nat) (k : Nat → ClassId) (n : Nat) (op : Nat) (tn : Nat) (mn : Nat) (th : Nat) (fl : Nat) (wr : Nat) (bl : Nat → Nat) (fd : Nat → Nat) (wh : Nat → Nat) (bf : Nat → Nat) (M : Nat → Nat → Nat)  (sz0 : Nat) (hn64 : n ≤ 64) (hn4 : 4 ≤ n) (hM : ∀ x j, M x j < 256) : Met l y_Md_reopen (pb_ws y_Md_reopen b_Md_reopen 6 (some .int)) (pb_rm 3 0 0) (pb_P D k [.ref (a 0)] (md_W a k n op tn mn th fl wr (pb_flat M) bl fd wh bf) sz0) (pb_QI D (md_W a k n op tn mn th fl wr (pb_flat M) bl fd wh bf) sz0 (fun (r : Int32) (u : Nat) => pb_reops n M r u) (fun (u : Nat) => if u = 1 then md_W a k n 1 (M 0 0) (M (M 0 0) 0) 0 fl 0 (pb_flat M) (pb_fill bl 0 (M (M 0 0) 0) (fun j => M (M 0 0) (1 + j))) fd wh bf else md_W a k n 0 tn mn 0 fl 0 (pb_flat M) bl fd wh bf)) 0 0 (va_A (md_W a k n op tn mn th fl wr (pb_flat M) bl fd wh bf) sz0) := by
  refine pb_mkI R_Md rfl (by decide) (Nat.le_of_ble_eq_true rfl) ?_
  intro p e R s m args below meth c Q A ls C hRc hA hw hl kr
  obtain ⟨H, hH⟩ : ∃ H : Heap, H = s.heap := ⟨_, rfl⟩
  obtain ⟨locs, hL⟩ : ∃ L : List Loc, L = [] := ⟨_, rfl⟩
  have hw : pb_W D A s.heap (md_W a k n op tn mn th fl wr (pb_flat M) bl fd wh bf) H locs := by rw [hH, hL]; exact hw
  rw [show W p l e R s m args below meth c s.heap [] 0 0 Q (F0 m 0 ls []) = W p l e R s m args below meth c H locs 0 0 Q (F0 m 0 ls []) by rw [hH, hL]]
  clear hH hL
  obtain ⟨hx, hb, hml, hown, hG, hkn, hR1, hR2⟩ := id C
  have hl : lv_has ls 6 [(0, .ref (a 0))] := hl
  have hM00 := hM 0 0
  have hMT := hM (M 0 0) 0
  refine lv_aload_n hx hb d_Md_reopen_0 rfl (lv_at hl 0 rfl) ?_
  refine lv_iconst (v := nI 0) hx hb d_Md_reopen_1 (by decide +kernel) ?_
  refine md_p_thrown C hw d_Md_reopen_2 (fun H locs hw => ?_)
  refine lv_aload_n hx hb d_Md_reopen_5 rfl (lv_at hl 0 rfl) ?_
  refine lv_iconst (v := nI 0) hx hb d_Md_reopen_6 (by decide +kernel) ?_
  refine md_p_open C hw (by omega) d_Md_reopen_7 (fun H locs hw => ?_)
  refine lv_aload_n hx hb d_Md_reopen_10 rfl (lv_at hl 0 rfl) ?_
  refine lv_iconst (v := nI 0) hx hb d_Md_reopen_11 (by decide +kernel) ?_
  refine md_p_written C hw d_Md_reopen_12 (fun H locs hw => ?_)
  refine lv_aload_n hx hb d_Md_reopen_15 rfl (lv_at hl 0 rfl) ?_
  refine md_g_store C hw.1 d_Md_reopen_16 ?_
  refine lv_iconst (v := nI 0) hx hb d_Md_reopen_19 (by decide +kernel) ?_
  refine md_lf (b := 0) (i := 0) C hw.1 (by omega) (by omega) (by omega) d_Md_reopen_20 ?_
  refine lv_istore_n (lv' := [(1, .int (nI (M 0 0))), (0, .ref (a 0))]) hx hb d_Md_reopen_21 rfl hl (by decide) rfl (fun ls hl => ?_)
  refine lv_iload_n hx hb d_Md_reopen_22 rfl (lv_at hl 0 rfl) ?_
  refine lv_iconst (v := nI 1) hx hb d_Md_reopen_23 (by decide +kernel) ?_
  refine pb_eq (tgt := 34) (by omega) (by omega) hx hb d_Md_reopen_24 (by decide) (fun c_1 => ?_) (fun c_1 => ?_)
  · have hT2 : M 0 0 = 1 ∨ M 0 0 = 2 := by omega
    refine lv_aload_n hx hb d_Md_reopen_34 rfl (lv_at hl 1 rfl) ?_
    refine lv_iload_n hx hb d_Md_reopen_35 rfl (lv_at hl 0 rfl) ?_
    refine pb_vR (As := [.int (nI (M 0 0))]) (rest := []) C hw.1 k_Md_rootIsRight m_398 (c_Md_rootIsRight l D a k n 0 tn mn 0 fl 0 bl fd wh bf M (M 0 0) (by omega) hM hn64) rfl hl.1 0 2 rfl rfl rfl ⟨by decide, by decide⟩ ⟨Nat.zero_le _, Nat.zero_le _⟩ rfl (Nat.le_of_ble_eq_true rfl) d_Md_reopen_36 (fun r36 h36 => ?_)
    rcases h36 with ⟨rfl, h36⟩ | ⟨rfl, h36⟩
    · refine pb_nz (tgt := 46) (by decide) hx hb d_Md_reopen_39 (by decide) (fun _ => ?_) (fun c_2 => absurd c_2 (by decide))
      refine lv_aload_n hx hb d_Md_reopen_46 rfl (lv_at hl 1 rfl) ?_
      refine md_g_store C hw.1 d_Md_reopen_47 ?_
      refine lv_bipush (v := nI 64) hx hb d_Md_reopen_50 (by decide +kernel) ?_
      refine lv_iload_n hx hb d_Md_reopen_52 rfl (lv_at hl 0 rfl) ?_
      refine pb_mul hx hb d_Md_reopen_53 ?_
      refine md_lf (b := M 0 0) (i := 0) C hw.1 (by omega) (by omega) (by omega) d_Md_reopen_54 ?_
      refine lv_istore_n (lv' := [(2, .int (nI (M (M 0 0) 0))), (1, .int (nI (M 0 0))), (0, .ref (a 0))]) hx hb d_Md_reopen_55 rfl hl (by decide) rfl (fun ls hl => ?_)
      refine lv_sipush (v := nI 1000) hx hb d_Md_reopen_56 (by decide +kernel) ?_
      refine lv_istore_n (lv' := [(3, .int (nI 1000)), (2, .int (nI (M (M 0 0) 0))), (1, .int (nI (M 0 0))), (0, .ref (a 0))]) hx hb d_Md_reopen_59 rfl hl (by decide) rfl (fun ls hl => ?_)
      refine lv_iconst (v := nI 0) hx hb d_Md_reopen_60 (by decide +kernel) ?_
      refine lv_istore (lv' := [(4, .int (nI 0)), (3, .int (nI 1000)), (2, .int (nI (M (M 0 0) 0))), (1, .int (nI (M 0 0))), (0, .ref (a 0))]) hx hb d_Md_reopen_61 hl (by decide) rfl (fun ls hl => ?_)
      have loop63 : ∀ (fu : Nat) (q w : Nat) (H : Heap) (locs : List Loc) (ls : Array Slot), (q ≤ M (M 0 0) 0) → (M (M 0 0) 0 + 1 ≤ q + fu) → (w ≤ 1000) → (pb_lm M (M 0 0) q w) → pb_W D A s.heap (md_W a k n 0 tn mn 0 fl 0 (pb_flat M) bl fd wh bf) H locs → lv_has ls 6 [(4, .int (nI q)), (3, .int (nI w)), (2, .int (nI (M (M 0 0) 0))), (1, .int (nI (M 0 0))), (0, .ref (a 0))] → W p l e R s m args below meth c H locs 0 0 Q (F0 m 63 ls []) := by
        intro fu
        induction fu with
        | zero =>
          intro q w H locs ls h1 hn hw1000 hw0
          exfalso
          omega
        | succ fu ih =>
          intro q w H locs ls h1 hn hw1000 hw0 hw hl
          refine lv_iload hx hb d_Md_reopen_63 (lv_at hl 0 rfl) ?_
          refine lv_iload_n hx hb d_Md_reopen_65 rfl (lv_at hl 2 rfl) ?_
          refine pb_ge (tgt := 109) (by omega) (by omega) hx hb d_Md_reopen_66 (by decide) (fun c_3 => ?_) (fun c_3 => ?_)
          · refine lv_iload_n hx hb d_Md_reopen_109 rfl (lv_at hl 1 rfl) ?_
            refine lv_sipush (v := nI 1000) hx hb d_Md_reopen_110 (by decide +kernel) ?_
            refine pb_ge (tgt := 120) (by omega) (by omega) hx hb d_Md_reopen_113 (by decide) (fun c_4 => ?_) (fun c_4 => ?_)
            · have h40 := h36.2.1
              have hall : ∀ e, e < M (M 0 0) 0 → pb_eok (M (M (M 0 0) (1 + e))) := by
                intro e2 he2
                rcases hw0 with ⟨-, g⟩ | g
                · exact g e2 (by omega)
                · obtain ⟨⟨e3, g1, g2, -⟩, -⟩ := g
                  have := (h36.2.2 e3 (by omega)).2.1
                  omega
              refine lv_aload_n hx hb d_Md_reopen_120 rfl (lv_at hl 4 rfl) ?_
              refine lv_iload_n hx hb d_Md_reopen_121 rfl (lv_at hl 3 rfl) ?_
              refine md_p_turn C hw d_Md_reopen_122 (fun H locs hw => ?_)
              refine lv_aload_n hx hb d_Md_reopen_125 rfl (lv_at hl 4 rfl) ?_
              refine lv_iload_n hx hb d_Md_reopen_126 rfl (lv_at hl 2 rfl) ?_
              refine md_p_entries C hw d_Md_reopen_127 (fun H locs hw => ?_)
              refine lv_iconst (v := nI 0) hx hb d_Md_reopen_130 (by decide +kernel) ?_
              refine lv_istore (lv' := [(4, .int (nI 0)), (3, .int (nI w)), (2, .int (nI (M (M 0 0) 0))), (1, .int (nI (M 0 0))), (0, .ref (a 0))]) hx hb d_Md_reopen_131 hl (by decide) rfl (fun ls hl => ?_)
              have loop133 : ∀ (fv : Nat) (q2 : Nat) (H : Heap) (locs : List Loc) (ls : Array Slot), (q2 ≤ M (M 0 0) 0) → (M (M 0 0) 0 + 1 ≤ q2 + fv) → pb_W D A s.heap (md_W a k n 0 (M 0 0) (M (M 0 0) 0) 0 fl 0 (pb_flat M) (pb_fill bl 0 q2 (fun j => M (M 0 0) (1 + j))) fd wh bf) H locs → lv_has ls 6 [(4, .int (nI q2)), (2, .int (nI (M (M 0 0) 0))), (1, .int (nI (M 0 0))), (0, .ref (a 0))] → W p l e R s m args below meth c H locs 0 0 Q (F0 m 133 ls []) := by
                intro fv
                induction fv with
                | zero =>
                  intro q2 H locs ls g1 gn
                  exfalso
                  omega
                | succ fv ih2 =>
                  intro q2 H locs ls g1 gn hw hl
                  refine lv_iload hx hb d_Md_reopen_133 (lv_at hl 0 rfl) ?_
                  refine lv_iload_n hx hb d_Md_reopen_135 rfl (lv_at hl 1 rfl) ?_
                  refine pb_ge (tgt := 166) (by omega) (by omega) hx hb d_Md_reopen_136 (by decide) (fun c_5 => ?_) (fun c_5 => ?_)
                  · refine lv_aload_n hx hb d_Md_reopen_166 rfl (lv_at hl 3 rfl) ?_
                    refine lv_iconst (v := nI 1) hx hb d_Md_reopen_167 (by decide +kernel) ?_
                    refine md_p_open C hw (by omega) d_Md_reopen_168 (fun H locs hw => ?_)
                    refine lv_iload_n hx hb d_Md_reopen_171 rfl (lv_at hl 1 rfl) ?_
                    obtain rfl : q2 = M (M 0 0) 0 := by omega
                    exact kr _ _ _ _ _ 1 d_Md_reopen_172 rfl hw (Or.inr (Or.inr (Or.inr ⟨hT2, h36.1, h36.2, hall, rfl, rfl⟩)))
                  · refine lv_aload_n hx hb d_Md_reopen_139 rfl (lv_at hl 3 rfl) ?_
                    refine md_g_block C hw.1 d_Md_reopen_140 ?_
                    refine lv_iload hx hb d_Md_reopen_143 (lv_at hl 0 rfl) ?_
                    refine lv_aload_n hx hb d_Md_reopen_145 rfl (lv_at hl 3 rfl) ?_
                    refine md_g_store C hw.1 d_Md_reopen_146 ?_
                    refine lv_bipush (v := nI 64) hx hb d_Md_reopen_149 (by decide +kernel) ?_
                    refine lv_iload_n hx hb d_Md_reopen_151 rfl (lv_at hl 2 rfl) ?_
                    refine pb_mul hx hb d_Md_reopen_152 ?_
                    refine lv_iconst (v := nI 1) hx hb d_Md_reopen_153 (by decide +kernel) ?_
                    refine pb_add hx hb d_Md_reopen_154 ?_
                    refine lv_iload hx hb d_Md_reopen_155 (lv_at hl 0 rfl) ?_
                    refine pb_add hx hb d_Md_reopen_157 ?_
                    refine md_lf (b := M 0 0) (i := 1 + q2) C hw.1 (by omega) (by omega) (by omega) d_Md_reopen_158 ?_
                    refine md_s_block C hw (by omega) d_Md_reopen_159 (fun H locs hw => ?_)
                    refine lv_iinc (v := nI (q2 + 1)) (lv' := [(4, .int (nI (q2 + 1))), (2, .int (nI (M (M 0 0) 0))), (1, .int (nI (M 0 0))), (0, .ref (a 0))]) hx hb d_Md_reopen_160 hl (k := 0) rfl (pb_i1 _) (by decide) rfl (fun ls hl => ?_)
                    refine lv_goto (tgt := 133) hx hb d_Md_reopen_163 (by decide) ?_
                    exact ih2 (q2 + 1) _ _ _ (by omega) (by omega) (by rw [← pb_fill_s0 bl q2]; exact hw) (lv_sub hl [0, 1, 2, 3] rfl)
              exact loop133 (M (M 0 0) 0 + 1) 0 _ _ _ (by omega) (by omega) (by rw [pb_fill_0]; exact hw) (lv_sub hl [0, 2, 3, 4] rfl)
            · refine lv_iconst (v := -1) hx hb d_Md_reopen_116 (by decide +kernel) ?_
              refine lv_iload_n hx hb d_Md_reopen_117 rfl (lv_at hl 1 rfl) ?_
              refine lv_isub hx hb d_Md_reopen_118 ?_
              exact kr _ _ _ _ _ 0 d_Md_reopen_119 rfl hw (Or.inr (Or.inr (Or.inl ⟨hT2, h36.1, h36.2, ⟨w, by rcases hw0 with ⟨g, -⟩ | g; exact absurd g (by omega); rw [show q = M (M 0 0) 0 by omega] at g; exact g, rfl⟩, rfl⟩)))
          · have he := h36.2.2 q (by omega)
            have h40 := h36.2.1
            refine lv_aload_n hx hb d_Md_reopen_69 rfl (lv_at hl 4 rfl) ?_
            refine md_g_store C hw.1 d_Md_reopen_70 ?_
            refine lv_bipush (v := nI 64) hx hb d_Md_reopen_73 (by decide +kernel) ?_
            refine lv_iload_n hx hb d_Md_reopen_75 rfl (lv_at hl 3 rfl) ?_
            refine pb_mul hx hb d_Md_reopen_76 ?_
            refine lv_iconst (v := nI 1) hx hb d_Md_reopen_77 (by decide +kernel) ?_
            refine pb_add hx hb d_Md_reopen_78 ?_
            refine lv_iload hx hb d_Md_reopen_79 (lv_at hl 0 rfl) ?_
            refine pb_add hx hb d_Md_reopen_81 ?_
            refine md_lf (b := M 0 0) (i := 1 + q) C hw.1 (by omega) (by omega) (by omega) d_Md_reopen_82 ?_
            refine lv_istore (lv' := [(5, .int (nI (M (M 0 0) (1 + q)))), (4, .int (nI q)), (3, .int (nI w)), (2, .int (nI (M (M 0 0) 0))), (1, .int (nI (M 0 0))), (0, .ref (a 0))]) hx hb d_Md_reopen_83 hl (by decide) rfl (fun ls hl => ?_)
            refine lv_aload_n hx hb d_Md_reopen_85 rfl (lv_at hl 5 rfl) ?_
            refine lv_iload hx hb d_Md_reopen_86 (lv_at hl 0 rfl) ?_
            refine pb_vR (As := [.int (nI (M (M 0 0) (1 + q)))]) (rest := []) C hw.1 k_Md_entryIsRight m_406 (c_Md_entryIsRight l D a k n 0 tn mn 0 fl 0 bl fd wh bf M (M (M 0 0) (1 + q)) (by omega) hM) rfl hl.1 0 2 rfl rfl rfl ⟨by decide, by decide⟩ ⟨Nat.zero_le _, Nat.zero_le _⟩ rfl (Nat.le_of_ble_eq_true rfl) d_Md_reopen_88 (fun r88 h88 => ?_)
            rcases h88 with ⟨rfl, h88⟩ | ⟨rfl, h88⟩
            · refine pb_nz (tgt := 103) (by decide) hx hb d_Md_reopen_91 (by decide) (fun _ => ?_) (fun c_4 => absurd c_4 (by decide))
              refine lv_iinc (v := nI (q + 1)) (lv' := [(4, .int (nI (q + 1))), (5, .int (nI (M (M 0 0) (1 + q)))), (3, .int (nI w)), (2, .int (nI (M (M 0 0) 0))), (1, .int (nI (M 0 0))), (0, .ref (a 0))]) hx hb d_Md_reopen_103 hl (k := 1) rfl (pb_i1 _) (by decide) rfl (fun ls hl => ?_)
              refine lv_goto (tgt := 63) hx hb d_Md_reopen_106 (by decide) ?_
              exact ih (q + 1) w _ _ _ (by omega) (by omega) hw1000 (pb_lm_ok hw0 h88) hw (lv_sub hl [0, 2, 3, 4, 5] rfl)
            · refine pb_nz (tgt := 103) (by decide) hx hb d_Md_reopen_91 (by decide) (fun c_4 => absurd c_4 (by decide)) (fun _ => ?_)
              refine lv_iload hx hb d_Md_reopen_94 (lv_at hl 0 rfl) ?_
              refine lv_iload_n hx hb d_Md_reopen_96 rfl (lv_at hl 2 rfl) ?_
              refine pb_ge (tgt := 103) (by omega) (by omega) hx hb d_Md_reopen_97 (by decide) (fun c_5 => ?_) (fun c_5 => ?_)
              · refine lv_iinc (v := nI (q + 1)) (lv' := [(4, .int (nI (q + 1))), (5, .int (nI (M (M 0 0) (1 + q)))), (3, .int (nI w)), (2, .int (nI (M (M 0 0) 0))), (1, .int (nI (M 0 0))), (0, .ref (a 0))]) hx hb d_Md_reopen_103 hl (k := 1) rfl (pb_i1 _) (by decide) rfl (fun ls hl => ?_)
                refine lv_goto (tgt := 63) hx hb d_Md_reopen_106 (by decide) ?_
                exact ih (q + 1) w _ _ _ (by omega) (by omega) hw1000 (pb_lm_ge hw0 (by omega) (by omega)) hw (lv_sub hl [0, 2, 3, 4, 5] rfl)
              · refine lv_iload hx hb d_Md_reopen_100 (lv_at hl 0 rfl) ?_
                refine lv_istore_n (lv' := [(3, .int (nI (M (M 0 0) (1 + q)))), (5, .int (nI (M (M 0 0) (1 + q)))), (4, .int (nI q)), (2, .int (nI (M (M 0 0) 0))), (1, .int (nI (M 0 0))), (0, .ref (a 0))]) hx hb d_Md_reopen_102 rfl hl (by decide) rfl (fun ls hl => ?_)
                refine lv_iinc (v := nI (q + 1)) (lv' := [(4, .int (nI (q + 1))), (3, .int (nI (M (M 0 0) (1 + q)))), (5, .int (nI (M (M 0 0) (1 + q)))), (2, .int (nI (M (M 0 0) 0))), (1, .int (nI (M 0 0))), (0, .ref (a 0))]) hx hb d_Md_reopen_103 hl (k := 2) rfl (pb_i1 _) (by decide) rfl (fun ls hl => ?_)
                refine lv_goto (tgt := 63) hx hb d_Md_reopen_106 (by decide) ?_
                exact ih (q + 1) (M (M 0 0) (1 + q)) _ _ _ (by omega) (by omega) (by omega) (pb_lm_no hw0 h88 (by omega)) hw (lv_sub hl [0, 1, 3, 4, 5] rfl)
      exact loop63 (M (M 0 0) 0 + 1) 0 1000 _ _ _ (by omega) (by omega) (by omega) (Or.inl ⟨rfl, fun z hz => absurd hz (Nat.not_lt_zero z)⟩) hw (lv_sub hl [0, 1, 2, 3, 4] rfl)
    · refine pb_nz (tgt := 46) (by decide) hx hb d_Md_reopen_39 (by decide) (fun c_2 => absurd c_2 (by decide)) (fun _ => ?_)
      refine lv_iconst (v := -1) hx hb d_Md_reopen_42 (by decide +kernel) ?_
      refine lv_iload_n hx hb d_Md_reopen_43 rfl (lv_at hl 0 rfl) ?_
      refine lv_isub hx hb d_Md_reopen_44 ?_
      exact kr _ _ _ _ _ 0 d_Md_reopen_45 rfl hw (Or.inr (Or.inl ⟨hT2, h36, rfl, rfl⟩))
  · refine lv_iload_n hx hb d_Md_reopen_27 rfl (lv_at hl 0 rfl) ?_
    refine lv_iconst (v := nI 2) hx hb d_Md_reopen_28 (by decide +kernel) ?_
    refine pb_eq (tgt := 34) (by omega) (by omega) hx hb d_Md_reopen_29 (by decide) (fun c_2 => ?_) (fun c_2 => ?_)
    · have hT2 : M 0 0 = 1 ∨ M 0 0 = 2 := by omega
      refine lv_aload_n hx hb d_Md_reopen_34 rfl (lv_at hl 1 rfl) ?_
      refine lv_iload_n hx hb d_Md_reopen_35 rfl (lv_at hl 0 rfl) ?_
      refine pb_vR (As := [.int (nI (M 0 0))]) (rest := []) C hw.1 k_Md_rootIsRight m_398 (c_Md_rootIsRight l D a k n 0 tn mn 0 fl 0 bl fd wh bf M (M 0 0) (by omega) hM hn64) rfl hl.1 0 2 rfl rfl rfl ⟨by decide, by decide⟩ ⟨Nat.zero_le _, Nat.zero_le _⟩ rfl (Nat.le_of_ble_eq_true rfl) d_Md_reopen_36 (fun r36 h36 => ?_)
      rcases h36 with ⟨rfl, h36⟩ | ⟨rfl, h36⟩
      · refine pb_nz (tgt := 46) (by decide) hx hb d_Md_reopen_39 (by decide) (fun _ => ?_) (fun c_3 => absurd c_3 (by decide))
        refine lv_aload_n hx hb d_Md_reopen_46 rfl (lv_at hl 1 rfl) ?_
        refine md_g_store C hw.1 d_Md_reopen_47 ?_
        refine lv_bipush (v := nI 64) hx hb d_Md_reopen_50 (by decide +kernel) ?_
        refine lv_iload_n hx hb d_Md_reopen_52 rfl (lv_at hl 0 rfl) ?_
        refine pb_mul hx hb d_Md_reopen_53 ?_
        refine md_lf (b := M 0 0) (i := 0) C hw.1 (by omega) (by omega) (by omega) d_Md_reopen_54 ?_
        refine lv_istore_n (lv' := [(2, .int (nI (M (M 0 0) 0))), (1, .int (nI (M 0 0))), (0, .ref (a 0))]) hx hb d_Md_reopen_55 rfl hl (by decide) rfl (fun ls hl => ?_)
        refine lv_sipush (v := nI 1000) hx hb d_Md_reopen_56 (by decide +kernel) ?_
        refine lv_istore_n (lv' := [(3, .int (nI 1000)), (2, .int (nI (M (M 0 0) 0))), (1, .int (nI (M 0 0))), (0, .ref (a 0))]) hx hb d_Md_reopen_59 rfl hl (by decide) rfl (fun ls hl => ?_)
        refine lv_iconst (v := nI 0) hx hb d_Md_reopen_60 (by decide +kernel) ?_
        refine lv_istore (lv' := [(4, .int (nI 0)), (3, .int (nI 1000)), (2, .int (nI (M (M 0 0) 0))), (1, .int (nI (M 0 0))), (0, .ref (a 0))]) hx hb d_Md_reopen_61 hl (by decide) rfl (fun ls hl => ?_)
        have loop63 : ∀ (fu : Nat) (q w : Nat) (H : Heap) (locs : List Loc) (ls : Array Slot), (q ≤ M (M 0 0) 0) → (M (M 0 0) 0 + 1 ≤ q + fu) → (w ≤ 1000) → (pb_lm M (M 0 0) q w) → pb_W D A s.heap (md_W a k n 0 tn mn 0 fl 0 (pb_flat M) bl fd wh bf) H locs → lv_has ls 6 [(4, .int (nI q)), (3, .int (nI w)), (2, .int (nI (M (M 0 0) 0))), (1, .int (nI (M 0 0))), (0, .ref (a 0))] → W p l e R s m args below meth c H locs 0 0 Q (F0 m 63 ls []) := by
          intro fu
          induction fu with
          | zero =>
            intro q w H locs ls h1 hn hw1000 hw0
            exfalso
            omega
          | succ fu ih =>
            intro q w H locs ls h1 hn hw1000 hw0 hw hl
            refine lv_iload hx hb d_Md_reopen_63 (lv_at hl 0 rfl) ?_
            refine lv_iload_n hx hb d_Md_reopen_65 rfl (lv_at hl 2 rfl) ?_
            refine pb_ge (tgt := 109) (by omega) (by omega) hx hb d_Md_reopen_66 (by decide) (fun c_4 => ?_) (fun c_4 => ?_)
            · refine lv_iload_n hx hb d_Md_reopen_109 rfl (lv_at hl 1 rfl) ?_
              refine lv_sipush (v := nI 1000) hx hb d_Md_reopen_110 (by decide +kernel) ?_
              refine pb_ge (tgt := 120) (by omega) (by omega) hx hb d_Md_reopen_113 (by decide) (fun c_5 => ?_) (fun c_5 => ?_)
              · have h40 := h36.2.1
                have hall : ∀ e, e < M (M 0 0) 0 → pb_eok (M (M (M 0 0) (1 + e))) := by
                  intro e2 he2
                  rcases hw0 with ⟨-, g⟩ | g
                  · exact g e2 (by omega)
                  · obtain ⟨⟨e3, g1, g2, -⟩, -⟩ := g
                    have := (h36.2.2 e3 (by omega)).2.1
                    omega
                refine lv_aload_n hx hb d_Md_reopen_120 rfl (lv_at hl 4 rfl) ?_
                refine lv_iload_n hx hb d_Md_reopen_121 rfl (lv_at hl 3 rfl) ?_
                refine md_p_turn C hw d_Md_reopen_122 (fun H locs hw => ?_)
                refine lv_aload_n hx hb d_Md_reopen_125 rfl (lv_at hl 4 rfl) ?_
                refine lv_iload_n hx hb d_Md_reopen_126 rfl (lv_at hl 2 rfl) ?_
                refine md_p_entries C hw d_Md_reopen_127 (fun H locs hw => ?_)
                refine lv_iconst (v := nI 0) hx hb d_Md_reopen_130 (by decide +kernel) ?_
                refine lv_istore (lv' := [(4, .int (nI 0)), (3, .int (nI w)), (2, .int (nI (M (M 0 0) 0))), (1, .int (nI (M 0 0))), (0, .ref (a 0))]) hx hb d_Md_reopen_131 hl (by decide) rfl (fun ls hl => ?_)
                have loop133 : ∀ (fv : Nat) (q2 : Nat) (H : Heap) (locs : List Loc) (ls : Array Slot), (q2 ≤ M (M 0 0) 0) → (M (M 0 0) 0 + 1 ≤ q2 + fv) → pb_W D A s.heap (md_W a k n 0 (M 0 0) (M (M 0 0) 0) 0 fl 0 (pb_flat M) (pb_fill bl 0 q2 (fun j => M (M 0 0) (1 + j))) fd wh bf) H locs → lv_has ls 6 [(4, .int (nI q2)), (2, .int (nI (M (M 0 0) 0))), (1, .int (nI (M 0 0))), (0, .ref (a 0))] → W p l e R s m args below meth c H locs 0 0 Q (F0 m 133 ls []) := by
                  intro fv
                  induction fv with
                  | zero =>
                    intro q2 H locs ls g1 gn
                    exfalso
                    omega
                  | succ fv ih2 =>
                    intro q2 H locs ls g1 gn hw hl
                    refine lv_iload hx hb d_Md_reopen_133 (lv_at hl 0 rfl) ?_
                    refine lv_iload_n hx hb d_Md_reopen_135 rfl (lv_at hl 1 rfl) ?_
                    refine pb_ge (tgt := 166) (by omega) (by omega) hx hb d_Md_reopen_136 (by decide) (fun c_6 => ?_) (fun c_6 => ?_)
                    · refine lv_aload_n hx hb d_Md_reopen_166 rfl (lv_at hl 3 rfl) ?_
                      refine lv_iconst (v := nI 1) hx hb d_Md_reopen_167 (by decide +kernel) ?_
                      refine md_p_open C hw (by omega) d_Md_reopen_168 (fun H locs hw => ?_)
                      refine lv_iload_n hx hb d_Md_reopen_171 rfl (lv_at hl 1 rfl) ?_
                      obtain rfl : q2 = M (M 0 0) 0 := by omega
                      exact kr _ _ _ _ _ 1 d_Md_reopen_172 rfl hw (Or.inr (Or.inr (Or.inr ⟨hT2, h36.1, h36.2, hall, rfl, rfl⟩)))
                    · refine lv_aload_n hx hb d_Md_reopen_139 rfl (lv_at hl 3 rfl) ?_
                      refine md_g_block C hw.1 d_Md_reopen_140 ?_
                      refine lv_iload hx hb d_Md_reopen_143 (lv_at hl 0 rfl) ?_
                      refine lv_aload_n hx hb d_Md_reopen_145 rfl (lv_at hl 3 rfl) ?_
                      refine md_g_store C hw.1 d_Md_reopen_146 ?_
                      refine lv_bipush (v := nI 64) hx hb d_Md_reopen_149 (by decide +kernel) ?_
                      refine lv_iload_n hx hb d_Md_reopen_151 rfl (lv_at hl 2 rfl) ?_
                      refine pb_mul hx hb d_Md_reopen_152 ?_
                      refine lv_iconst (v := nI 1) hx hb d_Md_reopen_153 (by decide +kernel) ?_
                      refine pb_add hx hb d_Md_reopen_154 ?_
                      refine lv_iload hx hb d_Md_reopen_155 (lv_at hl 0 rfl) ?_
                      refine pb_add hx hb d_Md_reopen_157 ?_
                      refine md_lf (b := M 0 0) (i := 1 + q2) C hw.1 (by omega) (by omega) (by omega) d_Md_reopen_158 ?_
                      refine md_s_block C hw (by omega) d_Md_reopen_159 (fun H locs hw => ?_)
                      refine lv_iinc (v := nI (q2 + 1)) (lv' := [(4, .int (nI (q2 + 1))), (2, .int (nI (M (M 0 0) 0))), (1, .int (nI (M 0 0))), (0, .ref (a 0))]) hx hb d_Md_reopen_160 hl (k := 0) rfl (pb_i1 _) (by decide) rfl (fun ls hl => ?_)
                      refine lv_goto (tgt := 133) hx hb d_Md_reopen_163 (by decide) ?_
                      exact ih2 (q2 + 1) _ _ _ (by omega) (by omega) (by rw [← pb_fill_s0 bl q2]; exact hw) (lv_sub hl [0, 1, 2, 3] rfl)
                exact loop133 (M (M 0 0) 0 + 1) 0 _ _ _ (by omega) (by omega) (by rw [pb_fill_0]; exact hw) (lv_sub hl [0, 2, 3, 4] rfl)
              · refine lv_iconst (v := -1) hx hb d_Md_reopen_116 (by decide +kernel) ?_
                refine lv_iload_n hx hb d_Md_reopen_117 rfl (lv_at hl 1 rfl) ?_
                refine lv_isub hx hb d_Md_reopen_118 ?_
                exact kr _ _ _ _ _ 0 d_Md_reopen_119 rfl hw (Or.inr (Or.inr (Or.inl ⟨hT2, h36.1, h36.2, ⟨w, by rcases hw0 with ⟨g, -⟩ | g; exact absurd g (by omega); rw [show q = M (M 0 0) 0 by omega] at g; exact g, rfl⟩, rfl⟩)))
            · have he := h36.2.2 q (by omega)
              have h40 := h36.2.1
              refine lv_aload_n hx hb d_Md_reopen_69 rfl (lv_at hl 4 rfl) ?_
              refine md_g_store C hw.1 d_Md_reopen_70 ?_
              refine lv_bipush (v := nI 64) hx hb d_Md_reopen_73 (by decide +kernel) ?_
              refine lv_iload_n hx hb d_Md_reopen_75 rfl (lv_at hl 3 rfl) ?_
              refine pb_mul hx hb d_Md_reopen_76 ?_
              refine lv_iconst (v := nI 1) hx hb d_Md_reopen_77 (by decide +kernel) ?_
              refine pb_add hx hb d_Md_reopen_78 ?_
              refine lv_iload hx hb d_Md_reopen_79 (lv_at hl 0 rfl) ?_
              refine pb_add hx hb d_Md_reopen_81 ?_
              refine md_lf (b := M 0 0) (i := 1 + q) C hw.1 (by omega) (by omega) (by omega) d_Md_reopen_82 ?_
              refine lv_istore (lv' := [(5, .int (nI (M (M 0 0) (1 + q)))), (4, .int (nI q)), (3, .int (nI w)), (2, .int (nI (M (M 0 0) 0))), (1, .int (nI (M 0 0))), (0, .ref (a 0))]) hx hb d_Md_reopen_83 hl (by decide) rfl (fun ls hl => ?_)
              refine lv_aload_n hx hb d_Md_reopen_85 rfl (lv_at hl 5 rfl) ?_
              refine lv_iload hx hb d_Md_reopen_86 (lv_at hl 0 rfl) ?_
              refine pb_vR (As := [.int (nI (M (M 0 0) (1 + q)))]) (rest := []) C hw.1 k_Md_entryIsRight m_406 (c_Md_entryIsRight l D a k n 0 tn mn 0 fl 0 bl fd wh bf M (M (M 0 0) (1 + q)) (by omega) hM) rfl hl.1 0 2 rfl rfl rfl ⟨by decide, by decide⟩ ⟨Nat.zero_le _, Nat.zero_le _⟩ rfl (Nat.le_of_ble_eq_true rfl) d_Md_reopen_88 (fun r88 h88 => ?_)
              rcases h88 with ⟨rfl, h88⟩ | ⟨rfl, h88⟩
              · refine pb_nz (tgt := 103) (by decide) hx hb d_Md_reopen_91 (by decide) (fun _ => ?_) (fun c_5 => absurd c_5 (by decide))
                refine lv_iinc (v := nI (q + 1)) (lv' := [(4, .int (nI (q + 1))), (5, .int (nI (M (M 0 0) (1 + q)))), (3, .int (nI w)), (2, .int (nI (M (M 0 0) 0))), (1, .int (nI (M 0 0))), (0, .ref (a 0))]) hx hb d_Md_reopen_103 hl (k := 1) rfl (pb_i1 _) (by decide) rfl (fun ls hl => ?_)
                refine lv_goto (tgt := 63) hx hb d_Md_reopen_106 (by decide) ?_
                exact ih (q + 1) w _ _ _ (by omega) (by omega) hw1000 (pb_lm_ok hw0 h88) hw (lv_sub hl [0, 2, 3, 4, 5] rfl)
              · refine pb_nz (tgt := 103) (by decide) hx hb d_Md_reopen_91 (by decide) (fun c_5 => absurd c_5 (by decide)) (fun _ => ?_)
                refine lv_iload hx hb d_Md_reopen_94 (lv_at hl 0 rfl) ?_
                refine lv_iload_n hx hb d_Md_reopen_96 rfl (lv_at hl 2 rfl) ?_
                refine pb_ge (tgt := 103) (by omega) (by omega) hx hb d_Md_reopen_97 (by decide) (fun c_6 => ?_) (fun c_6 => ?_)
                · refine lv_iinc (v := nI (q + 1)) (lv' := [(4, .int (nI (q + 1))), (5, .int (nI (M (M 0 0) (1 + q)))), (3, .int (nI w)), (2, .int (nI (M (M 0 0) 0))), (1, .int (nI (M 0 0))), (0, .ref (a 0))]) hx hb d_Md_reopen_103 hl (k := 1) rfl (pb_i1 _) (by decide) rfl (fun ls hl => ?_)
                  refine lv_goto (tgt := 63) hx hb d_Md_reopen_106 (by decide) ?_
                  exact ih (q + 1) w _ _ _ (by omega) (by omega) hw1000 (pb_lm_ge hw0 (by omega) (by omega)) hw (lv_sub hl [0, 2, 3, 4, 5] rfl)
                · refine lv_iload hx hb d_Md_reopen_100 (lv_at hl 0 rfl) ?_
                  refine lv_istore_n (lv' := [(3, .int (nI (M (M 0 0) (1 + q)))), (5, .int (nI (M (M 0 0) (1 + q)))), (4, .int (nI q)), (2, .int (nI (M (M 0 0) 0))), (1, .int (nI (M 0 0))), (0, .ref (a 0))]) hx hb d_Md_reopen_102 rfl hl (by decide) rfl (fun ls hl => ?_)
                  refine lv_iinc (v := nI (q + 1)) (lv' := [(4, .int (nI (q + 1))), (3, .int (nI (M (M 0 0) (1 + q)))), (5, .int (nI (M (M 0 0) (1 + q)))), (2, .int (nI (M (M 0 0) 0))), (1, .int (nI (M 0 0))), (0, .ref (a 0))]) hx hb d_Md_reopen_103 hl (k := 2) rfl (pb_i1 _) (by decide) rfl (fun ls hl => ?_)
                  refine lv_goto (tgt := 63) hx hb d_Md_reopen_106 (by decide) ?_
                  exact ih (q + 1) (M (M 0 0) (1 + q)) _ _ _ (by omega) (by omega) (by omega) (pb_lm_no hw0 h88 (by omega)) hw (lv_sub hl [0, 1, 3, 4, 5] rfl)
        exact loop63 (M (M 0 0) 0 + 1) 0 1000 _ _ _ (by omega) (by omega) (by omega) (Or.inl ⟨rfl, fun z hz => absurd hz (Nat.not_lt_zero z)⟩) hw (lv_sub hl [0, 1, 2, 3, 4] rfl)
      · refine pb_nz (tgt := 46) (by decide) hx hb d_Md_reopen_39 (by decide) (fun c_3 => absurd c_3 (by decide)) (fun _ => ?_)
        refine lv_iconst (v := -1) hx hb d_Md_reopen_42 (by decide +kernel) ?_
        refine lv_iload_n hx hb d_Md_reopen_43 rfl (lv_at hl 0 rfl) ?_
        refine lv_isub hx hb d_Md_reopen_44 ?_
        exact kr _ _ _ _ _ 0 d_Md_reopen_45 rfl hw (Or.inr (Or.inl ⟨hT2, h36, rfl, rfl⟩))
    · refine lv_iconst (v := -1) hx hb d_Md_reopen_32 (by decide +kernel) ?_
      exact kr _ _ _ _ _ 0 d_Md_reopen_33 rfl hw (Or.inl ⟨c_1, c_2, rfl, rfl⟩)
end
section
-- ===== multianewarray: an array of n rows of 64 bytes, over the machine =====
theorem pb_mk1 {S : State} {E : CtlPost} {e : Env} {d : Bool} {acts : List Action} {cB comp : ClassId} {kB : Class} {Q : Addr → Pre} (hk : S.vm.classes[cB]? = some kB) (hkind : kB.kind = .array comp .byte)
    (hlimit : ¬ 64 > e.platform.arrayLengthLimit) (hheap : ¬ 64 * componentBytes .byte > e.platform.maxHeapBytes) (hcells : S.heap.size < e.platform.maxCells) (hslots : S.slotsUsed + 64 ≤ e.platform.maxSlots)
    (hq : ∀ acts', Q S.heap.size d acts' (S.pushCell { cls := cB, slots := Array.replicate 64 (.int 0) })) : wp (multianewarray.make cB [nI 64]) Q E e d acts S := by
  unfold multianewarray.make
  have h0 : ¬ nI 64 < 0 := by decide +kernel
  have h1 : (nI 64).toNatClampNeg = 64 := by decide +kernel
  simp only [wp_bind', Jvm.W.ite, h0, if_false, wp_pure', Jvm.W.theClass, hk, Option.some.injEq, exists_eq_left', hkind, h1]
  exact Jvm.W.newArray_of (type := .byte) hk hkind hlimit hheap hcells hslots rfl hq
theorem pb_mk2 {S : State} {E : CtlPost} {e : Env} {d : Bool} {acts : List Action} {cA cB : ClassId} {kA : Class} {n : Nat} {Q : Addr → Pre} (hn : 0 < n) (hn2 : n < 2 ^ 31) (hk : S.vm.classes[cA]? = some kA) (hkind : kA.kind = .array cB (.array .byte))
    (hlimit : ¬ n > e.platform.arrayLengthLimit) (hheap : ¬ n * componentBytes (.array .byte) > e.platform.maxHeapBytes) (hcells : S.heap.size < e.platform.maxCells) (hslots : S.slotsUsed + n ≤ e.platform.maxSlots)
    (hq : ∀ acts', wp (forIn (List.range' 0 n) PUnit.unit (fun i (_ : PUnit) => do
        let r ← multianewarray.make cB [nI 64]
        writeLoc S.heap.size i (.ref r)
        Pure.pure (ForInStep.yield PUnit.unit))) (fun _ => Q S.heap.size) E e d acts' (S.pushCell { cls := cA, slots := Array.replicate n .null })) : wp (multianewarray.make cA [nI n, nI 64]) Q E e d acts S := by
  unfold multianewarray.make
  have h0 : ¬ nI n < 0 := nI_pos hn2
  have h1 : (nI n).toNatClampNeg = n := nI_clamp hn2
  simp only [wp_bind', Jvm.W.ite, h0, if_false, wp_pure', Jvm.W.theClass, hk, Option.some.injEq, exists_eq_left', hkind, h1]
  refine Jvm.W.newArray_of (type := .array .byte) hk hkind hlimit hheap hcells hslots rfl (fun acts' => ?_)
  have hne : ¬ ((nI n == 0) = true) := by
    intro h
    exact nI_ne0 hn hn2 (by simpa using h)
  rw [if_neg hne]
  simp only [wp_bind', wp_pure', Std.Legacy.Range.forIn_eq_forIn_range', Std.Legacy.Range.size]
  have := hq acts'
  simp at this ⊢
  exact this
theorem pb_multi_cold {s : State} {f : JFrame} {E : CtlPost} {e : Env} {d : Bool} {acts : List Action} {Q : Unit → Pre} {index dims c : Nat} {vm' : Vm} (hs : s.topJava?.isSome) (hg : (Jvm.resolveClass f.method.cls index).Gives e.toSetting s.vm (.ok c) vm') (hr : vm'.classReady f.method.cls index c)
    (hsz : vm'.classes.size ≤ s.vm.classes.size) :
    wp (multianewarray.sem index dims) Q E e d acts (s.setTop f) ↔ wp (multianewarray.sem index dims) Q E e d acts ((s.setVm vm').setTop f) := by
  simp only [multianewarray.sem, wp_bind']
  exact Jvm.W.resolveClassAt_transfer (s := s.setTop f) (State.method?_setTop f hs) hg hr hsz
theorem pb_multi_ready {s : State} {f : JFrame} {E : CtlPost} {e : Env} {d : Bool} {acts : List Action} {Q : Unit → Pre} {index c n : Nat} {rest : List Value} (hs : s.topJava?.isSome) (hr : s.vm.classReady f.method.cls index c) (hstack : f.stack = .int (nI 64) :: .int (nI n) :: rest)
    (hq : ∀ acts', wp (multianewarray.make c [nI n, nI 64]) (fun a d acts s => ∃ g, s.topJava? = some g ∧ Q () true acts (s.setTop { g with stack := .ref a :: g.stack })) E e true acts' (s.setTop { f with stack := rest })) : wp (multianewarray.sem index 2) Q E e d acts (s.setTop f) := by
  simp only [multianewarray.sem, wp_bind', Jvm.W.resolveClassAt_ready (State.method?_setTop f hs) hr]
  refine (popN_top (args := [.int (nI n), .int (nI 64)]) (rest := rest) hs (by simpa using hstack)).mpr ?_
  simp only [List.mapM_cons, List.mapM_nil, wp_bind', wp_pure', Jvm.W.mark, Jvm.W.pushRef]
  exact hq acts
/-- the states of the loop that makes the rows -/
def pb_V (cA cB : ClassId) (n : Nat) (T : State) : Nat → State
  | 0 => T.pushCell { cls := cA, slots := Array.replicate n .null }
  | i + 1 => ((pb_V cA cB n T i).pushCell { cls := cB, slots := Array.replicate 64 (.int 0) }).setCell T.heap.size ((arrV cA n (fun j => if j < i then .ref (T.heap.size + 1 + j) else .null)).setSlot i (.ref (T.heap.size + 1 + i)))
theorem pb_V_up {n i a : Nat} (j : Nat) : updV (fun j => if j < i then Value.ref (a + 1 + j) else .null) i (.ref (a + 1 + i)) j = if j < i + 1 then .ref (a + 1 + j) else .null := by
  unfold updV
  by_cases h : j = i
  · subst h; simp
  · by_cases h2 : j < i
    · simp [h, h2, Nat.lt_succ_of_lt h2]
    · have : ¬ j < i + 1 := by omega
      simp [h, h2, this]
section PBM
variable {p : Program} {l : Launch} {e : Env} {R : Room} {s : State} {m : MethodId} {args : Array Value} {below : List Frame} {meth : Method} {c : Code} {H : Heap} {locs : List Loc} {cells slots : Nat} {Q : State → Prop}
theorem pb_V_good {T : State} {cA cB : ClassId} {n : Nat} (X : Stand p l e R s m args below meth c T locs cells slots) : ∀ i, ∃ L : List Loc, Stand p l e R s m args below meth c (pb_V cA cB n T i) (locs ++ L) (cells + 1 + i) (slots + n + 64 * i) ∧ (∀ q ∈ L, q.base = T.heap.size) ∧ (pb_V cA cB n T i).heap.size = T.heap.size + 1 + i ∧
    (pb_V cA cB n T i).heap[T.heap.size]? = some (arrV cA n (fun j => if j < i then .ref (T.heap.size + 1 + j) else .null)) ∧ (∀ j, j < i → (pb_V cA cB n T i).heap[T.heap.size + 1 + j]? = some (arrV cB 64 (fun _ => .int 0))) ∧ (∀ q, q < T.heap.size → (pb_V cA cB n T i).heap[q]? = T.heap[q]?) ∧ (pb_V cA cB n T i).vm = T.vm := by
  intro i
  induction i with
  | zero =>
    refine ⟨[], ?_, fun q h => by simp at h, ?_, ?_, fun j hj => by omega, ?_, rfl⟩
    · have h : Stand p l e R s m args below meth c (T.pushCell { cls := cA, slots := Array.replicate n .null }) locs (cells + 1) (slots + n) := by simpa using X.pushed { cls := cA, slots := Array.replicate n .null }
      rw [List.append_nil]
      exact h
    · simp [pb_V, State.pushCell]
    · show (T.heap.push _)[T.heap.size]? = _
      rw [Array.getElem?_push_size, arrV_new]
      simp
    · intro q hq
      show (T.heap.push _)[q]? = _
      rw [Array.getElem?_push, if_neg (Nat.ne_of_lt hq)]
  | succ i ih =>
    obtain ⟨L, X1, hL, hz, ha, hr, ho, hv⟩ := ih
    have X2 := X1.pushed { cls := cB, slots := Array.replicate 64 (.int 0) }
    have ha2 : ((pb_V cA cB n T i).pushCell { cls := cB, slots := Array.replicate 64 (.int 0) }).heap[T.heap.size]? = some (arrV cA n (fun j => if j < i then .ref (T.heap.size + 1 + j) else .null)) := by
      show ((pb_V cA cB n T i).heap.push _)[T.heap.size]? = _
      rw [Array.getElem?_push, if_neg (by omega)]
      exact ha
    have X3 := X2.stored ha2 i (.ref (T.heap.size + 1 + i))
    have hlt : T.heap.size < ((pb_V cA cB n T i).pushCell { cls := cB, slots := Array.replicate 64 (.int 0) }).heap.size := (Array.getElem?_eq_some_iff.mp ha2).1
    refine ⟨L ++ [⟨T.heap.size, i⟩], ?_, ?_, ?_, ?_, ?_, ?_, ?_⟩
    · rw [← List.append_assoc]
      have e1 : cells + 1 + i + 1 = cells + 1 + (i + 1) := by omega
      have e2 : slots + n + 64 * i + ({ cls := cB, slots := Array.replicate 64 (.int 0) } : Cell).slots.size = slots + n + 64 * (i + 1) := by simp; omega
      rw [e1, e2] at X3
      exact X3
    · intro q hq
      rcases List.mem_append.mp hq with h | h
      · exact hL q h
      · rw [List.mem_singleton.mp h]
    · show (State.setCell _ _ _).heap.size = _
      rw [size_setCell, size_pushCell, hz]; omega
    · show (State.setCell _ _ _).heap[_]? = _
      rw [heapAt_setCell_self _ hlt, arrV_store]
      congr 2
      funext j
      exact pb_V_up (n := n) j
    · intro j hj
      show (State.setCell _ _ _).heap[_]? = _
      rw [heapAt_setCell_ne _ (show T.heap.size ≠ T.heap.size + 1 + j by omega)]
      show ((pb_V cA cB n T i).heap.push _)[_]? = _
      by_cases h : j = i
      · subst h
        rw [← hz, Array.getElem?_push_size, arrV_new]
      · rw [Array.getElem?_push, if_neg (by omega)]
        exact hr j (by omega)
    · intro q hq
      show (State.setCell _ _ _).heap[_]? = _
      rw [heapAt_setCell_ne _ (show T.heap.size ≠ q by omega)]
      show ((pb_V cA cB n T i).heap.push _)[_]? = _
      rw [Array.getElem?_push, if_neg (by omega)]
      exact ho q hq
    · exact hv
theorem pb_Wmulti {cc : ByteArray} (hexec : p.tables.exec = Jvm.exec) (hb : c.code = cc) {own : String} {index : Nat} (hown : s.vm.findClass own = some m.cls) (hclink : (Cond.classLink own index "[[B").before args s = true)
    {cA cB compB : ClassId} {kA kB : Class} (hfA : s.vm.findClass "[[B" = some cA) (hkA : s.vm.classes[cA]? = some kA) (hkindA : kA.kind = .array cB (.array .byte)) (hkB : s.vm.classes[cB]? = some kB) (hkindB : kB.kind = .array compB .byte)
    {g : JFrame} (hg : g.method = m) (hdg : decode cc g.pc = .ok (.multianewarray index 2, 4)) {n : Nat} {rest : List Value} (hstack : g.stack = .int (nI 64) :: .int (nI n) :: rest) (hn : 0 < n) (hn2 : n ≤ 64) (hcells : cells + (n + 1) ≤ R.cells) (hslots : slots + 65 * n ≤ R.slots)
    (kk : ∀ (H' : Heap) (L : List Loc), H'.size = H.size + 1 + n → (∀ q, q < H.size → H'[q]? = H[q]?) → H'[H.size]? = some (arrV cA n (fun j => .ref (H.size + 1 + j))) → (∀ j, j < n → H'[H.size + 1 + j]? = some (arrV cB 64 (fun _ => .int 0))) → (∀ q ∈ L, q.base = H.size) →
      W p l e R s m args below meth c H' (locs ++ L) (cells + (n + 1)) (slots + 65 * n) Q { g with pc := g.pc + 4, stack := .ref H.size :: rest }) : W p l e R s m args below meth c H locs cells slots Q g := by
  intro T hT X
  subst hT; subst hb; subst hg
  have hpl : e.platform.magicAccessors = ({} : Platform).magicAccessors := by rw [X.admits.platform]
  obtain ⟨cc', hfcc, hcl⟩ := Cond.classLink_spec hown hclink e.platform hpl
  cases hfA.symm.trans hfcc
  obtain ⟨hg₁, hwarm₁, hready₁⟩ := State.classEntry (e := e) X.warmed hcl
  generalize T.vm.noted g.method.cls index (.cls cA) = vm₁ at hg₁ hwarm₁ hready₁
  have hal : s.vm.Alike vm₁ := hwarm₁.alike
  obtain ⟨kA₁, hkA₁, heA⟩ := hal.2.2 _ _ hkA
  obtain ⟨kB₁, hkB₁, heB⟩ := hal.2.2 _ _ hkB
  have hkindA₁ : kA₁.kind = .array cB (.array .byte) := by rw [heA]; exact hkindA
  have hkindB₁ : kB₁.kind = .array compB .byte := by rw [heB]; exact hkindB
  have X₁ := X.noted hwarm₁
  obtain ⟨L, XV, hL, hz, ha, hr, ho, hv⟩ := pb_V_good (cA := cA) (cB := cB) (n := n) X₁ n
  have XV2 : Stand p l e R s g.method args below meth c (pb_V cA cB n (T.setVm vm₁) n) (locs ++ L) (cells + (n + 1)) (slots + 65 * n) := by
    have e1 : cells + 1 + n = cells + (n + 1) := by omega
    have e2 : slots + n + 64 * n = slots + 65 * n := by omega
    rw [e1, e2] at XV
    exact XV
  obtain ⟨t', a1, b1⟩ := kk (pb_V cA cB n (T.setVm vm₁) n).heap L hz ho (by
    rw [show (T.heap.size) = (T.setVm vm₁).heap.size from rfl, ha]
    congr 1
    unfold arrV
    congr 2
    funext j
    dsimp only
    rw [if_pos j.isLt]) hr hL (pb_V cA cB n (T.setVm vm₁) n) rfl XV2
  refine ⟨t', ?_, b1⟩
  have hsz : vm₁.classes.size ≤ T.vm.classes.size := by
    no_record
  jvm_step X.here [hexec, hdg]
  rw [pb_multi_cold (f := g) X.here.top hg₁ hready₁ hsz]
  refine pb_multi_ready (s := T.setVm vm₁) X₁.here.top hready₁ hstack (fun acts' => ?_)
  obtain ⟨hr1, hr2⟩ := X.roomAbove hcells hslots
  have hl1 : ¬ n > e.platform.arrayLengthLimit := by rw [Launch.admits_arrayLengthLimit X.admits]; omega
  have hl2 : ¬ 64 > e.platform.arrayLengthLimit := by rw [Launch.admits_arrayLengthLimit X.admits]; omega
  have hh1 : ¬ n * componentBytes (.array .byte) > e.platform.maxHeapBytes := by rw [Launch.admits_maxHeapBytes X.admits]; show ¬ n * 4 > 536870912; omega
  have hh2 : ¬ 64 * componentBytes .byte > e.platform.maxHeapBytes := by rw [Launch.admits_maxHeapBytes X.admits]; decide
  refine pb_mk2 (S := (T.setVm vm₁).setTop { g with stack := rest }) hn (by omega) hkA₁ hkindA₁ hl1 hh1 (by show T.heap.size < _; omega) (by show T.slotsUsed + n ≤ _; omega) (fun acts2 => ?_)
  refine wp_forIn_inv (fun rs s' => ∃ i, i ≤ n ∧ rs = List.range' i (n - i) ∧ s' = (pb_V cA cB n (T.setVm vm₁) i).setTop { g with stack := rest }) _ _ ⟨0, by omega, by simp, rfl⟩ ?_ ?_
  · intro x rs s' d' acts3 Q' hI hk2
    obtain ⟨i, hi, hrs, hs'⟩ := hI
    have hin : i < n := by
      rcases Nat.lt_or_ge i n with h | h
      · exact h
      · rw [show n - i = 0 by omega] at hrs; simp at hrs
    rw [show n - i = (n - i - 1) + 1 by omega, List.range'_succ] at hrs
    obtain ⟨rfl, rfl⟩ : x = i ∧ rs = List.range' (i + 1) (n - i - 1) := by simpa using hrs
    obtain ⟨Li, Xi, hLi, hzi, hai, hri, hoi, hvi⟩ := pb_V_good (cA := cA) (cB := cB) (n := n) X₁ x
    obtain ⟨hq1, hq2⟩ := Xi.roomAbove (a := 1) (b := 64) (by omega) (by omega)
    subst hs'
    rw [wp_bind']
    refine pb_mk1 (S := (pb_V cA cB n (T.setVm vm₁) x).setTop { g with stack := rest }) (kB := kB₁) (by show (pb_V cA cB n (T.setVm vm₁) x).vm.classes[cB]? = _; rw [hvi]; exact hkB₁) hkindB₁ hl2 hh2 (by show (pb_V cA cB n (T.setVm vm₁) x).heap.size < _; omega) (by show (pb_V cA cB n (T.setVm vm₁) x).slotsUsed + 64 ≤ _; omega) (fun acts4 => ?_)
    rw [wp_bind']
    simp only [Jvm.W.writeLoc, wp_pure']
    refine ⟨arrV cA n (fun j => if j < x then .ref (T.heap.size + 1 + j) else .null), ?_, (fun h => by cases h), by rw [arrV_size]; exact hin, ?_, ?_⟩
    · show ((pb_V cA cB n (T.setVm vm₁) x).heap.push _)[T.heap.size]? = _
      rw [Array.getElem?_push, if_neg (by show ¬ T.heap.size = _; rw [hzi]; show ¬ T.heap.size = T.heap.size + 1 + x; omega)]
      exact hai
    · have hk : (pb_V cA cB n (T.setVm vm₁) x).vm.classes[cA]? = some kA₁ := by rw [hvi]; exact hkA₁
      simp [State.fitsSlot, State.slotType?, arrV, hk, hkindA₁, fits]
    · refine hk2 _ _ _ ⟨x + 1, by omega, by rw [show n - x - 1 = n - (x + 1) by omega], ?_⟩
      have hz2 : (((pb_V cA cB n (T.setVm vm₁) x).setTop { g with stack := rest }).heap.size) = T.heap.size + 1 + x := hzi
      rw [hz2]
      rfl
  · intro s' d' acts3 hI
    obtain ⟨i, hi, hrs, hs'⟩ := hI
    have : i = n := by
      have := congrArg List.length hrs
      simp at this
      omega
    subst this
    subst hs'
    refine ⟨_, State.topJava?_setTop' _ XV2.here.top, ?_⟩
    intro acts5
    rw [afterInstr_ok]
    simpa using a1
end PBM
end
section
-- ===== rows for making: arrays, objects, calls with a part of the world =====
theorem pb_perm2 {D : va_G} {A : Nat → Prop} {H0 H : Heap} {w1 w2 : va_W} {locs : List Loc} (h : pb_W D A H0 (w1 ++ w2) H locs) : pb_W D A H0 (w2 ++ w1) H locs := by
  have hs1 : va_P D pb_cl (([] ++ w2) ++ w1) H := va_P.swap (a := []) (b := w1) (c := w2) h.1
  have hs2 : va_D A (([] ++ w2) ++ w1) := va_D.swap (a := []) (b := w1) (c := w2) h.2.1
  exact ⟨hs1, hs2, h.2.2⟩
theorem pb_tail {D : va_G} {A : Nat → Prop} {H0 H : Heap} {w1 w2 : va_W} {locs : List Loc} (hw : pb_W D A H0 (w1 ++ w2) H locs) (hA : ∀ q, H0.size ≤ q → A q) : va_P D pb_cl w2 H ∧ va_D A w2 ∧ (∀ q, va_A w2 H.size q → A q) ∧
    ∀ (H1 : Heap) (locs1 : List Loc) (w' : va_W), va_S A H0 H1 locs1 → va_P D pb_cl w' H1 → va_D (va_A w2 H.size) w' → (∀ q : Nat, q < H.size → ¬ va_A w2 H.size q → H1[q]? = H[q]?) → pb_W D A H0 (w1 ++ w') H1 locs1 := by
  obtain ⟨hP, hD, hS⟩ := hw
  have at2 : ∀ (i : Nat) (q : Nat × va_E), w2[i]? = some q → (w1 ++ w2)[w1.length + i]? = some q := by
    intro i q h
    rw [List.getElem?_append_right (by omega), Nat.add_sub_cancel_left]
    exact h
  have at1 : ∀ (i : Nat) (q : Nat × va_E), w1[i]? = some q → (w1 ++ w2)[i]? = some q := by
    intro i q h
    rw [List.getElem?_append_left (List.getElem?_eq_some_iff.mp h).1]
    exact h
  have hP2 : va_P D pb_cl w2 H := fun i q h => hP _ q (at2 i q h)
  have hD2 : va_D A w2 := ⟨fun i j x y hx hy hxy => by
    have := hD.1 _ _ x y (at2 i x hx) (at2 j y hy) hxy
    omega, fun i q h => hD.2 _ q (at2 i q h)⟩
  have hD1 : va_D A w1 := ⟨fun i j x y hx hy hxy => hD.1 _ _ x y (at1 i x hx) (at1 j y hy) hxy, fun i q h => hD.2 _ q (at1 i q h)⟩
  have hF : ∀ q, va_A w2 H.size q → A q := by
    rintro q (⟨i, e, h⟩ | h)
    · exact hD2.2 i _ h
    · exact hA q (Nat.le_trans hS.1 h)
  have apart : ∀ (i : Nat) (q : Nat × va_E), w1[i]? = some q → q.1 < H.size ∧ ¬ va_A w2 H.size q.1 := by
    intro i q hq
    have hl := (hP i q (at1 i q hq)).lt
    refine ⟨hl, ?_⟩
    rintro (⟨j, e, h⟩ | h)
    · have := hD.1 _ _ q (q.1, e) (at1 i q hq) (at2 j _ h) rfl
      have := (List.getElem?_eq_some_iff.mp hq).1
      omega
    · omega
  refine ⟨hP2, hD2, hF, fun H1 locs1 w' hS1 hP' hD' hk => ⟨va_P.app (fun i q hq => ?_) hP', va_D.app hD1 (hD'.weaken (fun i q _ h => hF q.1 h)) (fun i j x y hx hy hxy => ?_), hS1⟩⟩
  · obtain ⟨g1, g2⟩ := apart i q hq
    exact (hP i q (at1 i q hq)).kept (hk q.1 g1 g2)
  · exact (apart i x hx).2 (by rw [hxy]; exact hD'.2 j y hy)
section PBN
variable {p : Program} {l : Launch} {e : Env} {R : Room} {s : State} {m : MethodId} {args : Array Value} {below : List Frame} {meth : Method} {c : Code} {H : Heap} {locs : List Loc} {cells slots : Nat} {Q : State → Prop}
variable {cc : ByteArray} {pc : Nat} {ls : Array Slot} {rest : List Value} {D : va_G} {k : Nat → ClassId} {own : String} {nL fr lo : Nat} {A : Nat → Prop} {H0 : Heap} {ws ws' w1 w2 : va_W} {o : Nat}
theorem pb_newa {atype : ArrayType} {ty : FieldType} {a0 : vp_A} {N' t0 : Nat} {kc : ClassId} (C : pb_C D k own cc nL fr lo p R s m args c) (hA : ∀ q, H0.size ≤ q → A q) (hw : pb_W D A H0 ws H locs) (harr : Cond.arrayClass (newarray.typeOf atype) ∈ pb_G) (hty : newarray.typeOf atype = ty) (ht : (pb_ty k)[t0]? = some (kc, ty)) (hra : ∀ cA, va_RA s cA ty → va_RA s kc ty → cA = kc) (ha : ∀ cA : ClassId, vp_cell cA a0 = arrV cA N' (fun _ => defaultValue ty)) (hN : N' < 2 ^ 31) (hbytes : N' * componentBytes ty ≤ 536870912) (hcells : cells + 1 ≤ R.cells) (hslots : slots + N' ≤ R.slots) (hdg : decode cc pc = .ok (.newarray atype, 2))
    (kk : ∀ (q : Nat) (H : Heap) (locs : List Loc), pb_W D A H0 (ws ++ [(q, .inl (kc, a0))]) H locs → W p l e R s m args below meth c H locs (cells + 1) (slots + N') Q (F0 m (pc + 2) ls (.ref q :: rest))) : W p l e R s m args below meth c H locs cells slots Q (F0 m pc ls (.int (nI N') :: rest)) := by
  obtain ⟨hx, hb, hml, hown, hG, hkn, hR1, hR2⟩ := C
  refine va_newa hx hb (hG _ harr) hty hkn.1 hw.1 hw.2.1 hw.2.2 hA ha (nI_pos hN) (nI_clamp hN) hbytes hcells hslots hdg (fun q cA H1 hK1 hP1 hD1 hS1 => ?_)
  have e : cA = kc := hra cA (hK1.2 4 _ rfl).2 (hkn.1.2 t0 _ ht).2
  subst e
  exact kk q H1 locs ⟨hP1, hD1, hS1⟩
theorem pb_B0 (cA : ClassId) (n : Nat) : vp_cell cA (n, .inl (fun j => sb_b ((fun _ => 0) j))) = arrV cA n (fun _ => defaultValue .byte) := by
  rw [vp_cell_i]
  congr 1
theorem pb_I0 (cA : ClassId) (n : Nat) : vp_cell cA (n, .inl (fun j => nI ((fun _ => 0) j))) = arrV cA n (fun _ => defaultValue .int) := by
  rw [vp_cell_i]
  congr 1
theorem pb_newb {N' : Nat} (C : pb_C D k own cc nL fr lo p R s m args c) (hA : ∀ q, H0.size ≤ q → A q) (hw : pb_W D A H0 ws H locs) (hN : N' < 65536) (hcells : cells + 1 ≤ R.cells) (hslots : slots + N' ≤ R.slots) (hdg : decode cc pc = .ok (.newarray .byte, 2))
    (kk : ∀ (q : Nat) (H : Heap) (locs : List Loc), pb_W D A H0 (ws ++ [(q, pb_B (k 0) N' (fun _ => 0))]) H locs → W p l e R s m args below meth c H locs (cells + 1) (slots + N') Q (F0 m (pc + 2) ls (.ref q :: rest))) : W p l e R s m args below meth c H locs cells slots Q (F0 m pc ls (.int (nI N') :: rest)) :=
  pb_newa (atype := .byte) (ty := .byte) (t0 := 0) (kc := k 0) C hA hw m_51 rfl rfl (fun _ h1 h2 => Option.some.inj (h1.symm.trans h2)) (fun cA => pb_B0 cA N') (by omega) (by show N' * 1 ≤ _; omega) hcells hslots hdg kk
theorem pb_newi {N' : Nat} (C : pb_C D k own cc nL fr lo p R s m args c) (hA : ∀ q, H0.size ≤ q → A q) (hw : pb_W D A H0 ws H locs) (hN : N' < 65536) (hcells : cells + 1 ≤ R.cells) (hslots : slots + N' ≤ R.slots) (hdg : decode cc pc = .ok (.newarray .int, 2))
    (kk : ∀ (q : Nat) (H : Heap) (locs : List Loc), pb_W D A H0 (ws ++ [(q, pb_I (k 1) N' (fun _ => 0))]) H locs → W p l e R s m args below meth c H locs (cells + 1) (slots + N') Q (F0 m (pc + 2) ls (.ref q :: rest))) : W p l e R s m args below meth c H locs cells slots Q (F0 m pc ls (.int (nI N') :: rest)) :=
  pb_newa (atype := .int) (ty := .int) (t0 := 1) (kc := k 1) C hA hw m_52 rfl rfl (fun _ h1 h2 => Option.some.inj (h1.symm.trans h2)) (fun cA => pb_I0 cA N') (by omega) (by show N' * 4 ≤ _; omega) hcells hslots hdg kk
theorem pb_putF {Cc : String} {T : u_T} {N ci idx : Nat} {fs : List Value} {v : Value} {ty : FieldType} (C : pb_C D k own cc nL fr lo p R s m args c) (hw : pb_W D A H0 ws H locs) (hin : ∀ w ∈ u_ws Cc T N, w ∈ pb_G) (ty0 : Nat → FieldType) (hty : ∀ k, k < N → parseFieldDescriptor (T k).2.2.1 = some (ty0 k)) (hnm : ∀ a, a < N → ∀ b, b < N → a ≠ b → (T a).2.1 ≠ (T b).2.1) (q0 : Nat) (he : ws[q0]? = some (o, .inr (ci, fs))) (hc : pb_cl[ci]? = some (Cc, T, N)) (kf : Nat) (hk : kf < N) (hlk : Cond.fieldLink own idx (T kf).1 (T kf).2.1 (T kf).2.2.1 ∈ pb_G) (hfin : (T kf).2.2.2 = true) (hin2 : meth.name = "<init>") (hdecl : (T kf).1 = own) (hd : parseFieldDescriptor (T kf).2.2.1 = some ty) (hn : narrow ty v = v) (hfit : fits ty v = true) (hl : kf < fs.length) (hs : ws.set q0 (o, .inr (ci, fs.set kf v)) = ws') (hdg : decode cc pc = .ok (.putfield idx, 3))
    (kk : ∀ (H : Heap) (locs : List Loc), pb_W D A H0 ws' H locs → W p l e R s m args below meth c H locs cells slots Q (F0 m (pc + 3) ls rest)) : W p l e R s m args below meth c H locs cells slots Q (F0 m pc ls (v :: .ref o :: rest)) := by
  subst hs
  exact va_putF C.1 C.2.1 C.2.2.2.2.1 hin ty0 hty hnm C.2.2.2.1 C.2.2.2.2.2.1.1 hw.1 hw.2.1 hw.2.2 q0 he hc kf hk (C.2.2.2.2.1 _ hlk) (fun _ h => h) hfin hin2 hdecl hd hn hfit hl hdg (fun H1 locs1 h1 h2 h3 => kk H1 locs1 ⟨h1, h2, h3⟩)
/-- a constructor's call, of the world's last cells -/
theorem pb_tC {S : Type} {post : S → Prop} {wf : S → va_W} {y : MethodName} {b : ByteArray} {nL' n d mc ms idx : Nat} {As st : List Value} (C : pb_C D k own cc nL fr lo p R s m args c) (hA : ∀ q, H0.size ≤ q → A q) (hw : pb_W D A H0 (w1 ++ w2) H locs) (hc1 : Cond.instanceMethod y ∈ pb_G) (hc2 : Cond.initialized y.cls ∈ pb_G) (hc3 : Cond.code y b nL' none ∈ pb_G) (hc4 : y.name = "<init>") (hc5 : y.cls ≠ "java/lang/invoke/MethodHandle" ∧ y.cls ≠ "java/lang/invoke/VarHandle" ∧ (parseMethodDescriptor y.desc).map (fun d => d.parameters.length) = some n) (hlk : Cond.methodLink own idx y ∈ pb_G)
    (hM : Met l y (pb_ws y b nL' none) (pb_rm d mc ms) (pb_P D k (.ref o :: As) w2 H.size) (pb_QV D w2 H.size post wf) mc ms (va_A w2 H.size)) (hn : As.length = n) (hls : ls.size = nL) (hd : d + 1 ≤ fr ∧ 8 + (nL' + 11) + 40 * d ≤ lo) (hf : cells + mc ≤ R.cells ∧ slots + ms ≤ R.slots) (hst : st = As.reverse ++ .ref o :: rest) (hrest : (rest.map fun v => v.category).sum ≤ 8) (hdg : decode cc pc = .ok (.invokespecial idx, 3))
    (kk : ∀ (u : S) (H : Heap) (locs : List Loc), post u → pb_W D A H0 (w1 ++ wf u) H locs → W p l e R s m args below meth c H locs (cells + mc) (slots + ms) Q (F0 m (pc + 3) ls rest)) : W p l e R s m args below meth c H locs cells slots Q (F0 m pc ls st) := by
  obtain ⟨hP2, hD2, hF, hjoin⟩ := pb_tail hw hA
  obtain ⟨hx, hb, hml, hown, hG, hkn, hR1, hR2⟩ := C
  subst hst
  refine va_callv (va_runI (As := As) (rest := rest) ⟨hx, hb, hml, hown, hG⟩ hM ⟨callB_of n hG (pb_goodws hc3) rfl rfl rfl (hG _ hc2) (hG _ hlk) hc5 ⟨Nat.le_trans hd.1 hR1, Nat.le_trans hd.2 hR2⟩, hc4, hG _ hc1⟩ ⟨pb_P_bl, fun U hU hW => ⟨rfl, by rw [hU], by rw [hU]; exact hP2, hkn.warm hW, hD2.weaken (fun _ _ _ _ => trivial)⟩⟩ rfl hn hls rfl (lv_room hrest) hdg hf) hw.2.2 (fun q _ h => hF q h) hF (fun u t H1 locs1 ht hvm hp hB hz1 hk1 hS1 => ?_)
  obtain ⟨hP1, hD1⟩ := hB
  rw [ht] at hP1
  exact kk u H1 locs1 hp (hjoin H1 locs1 (wf u) hS1 hP1 hD1 hk1)
/-- a call of a method with the world's last cells that answers an int -/
theorem pb_tI {S : Type} {post : Int32 → S → Prop} {wf : S → va_W} {Cc : String} {y : MethodName} {b : ByteArray} {nL' n d mc ms idx : Nat} {ret : Option FieldType} {As st : List Value} (C : pb_C D k own cc nL fr lo p R s m args c) (hA : ∀ q, H0.size ≤ q → A q) (hw : pb_W D A H0 (w1 ++ w2) H locs) (cal : pb_cV Cc y b nL' n ret) (hlk : Cond.methodLink own idx y ∈ pb_G)
    (hM : Met l y (pb_ws y b nL' ret) (pb_rm d mc ms) (pb_P D k (.ref o :: As) w2 H.size) (pb_QI D w2 H.size post wf) mc ms (va_A w2 H.size)) (hn : As.length = n) (hls : ls.size = nL) (q0 ci : Nat) {fs : List Value} {q : vw_C} (hq : w2[q0]? = some (o, .inr (ci, fs))) (hc : pb_cl[ci]? = some q) (hqc : q.1 = Cc) (hd : d + 1 ≤ fr ∧ 8 + (nL' + 11) + 40 * d ≤ lo) (hf : cells + mc ≤ R.cells ∧ slots + ms ≤ R.slots) (hst : st = As.reverse ++ .ref o :: rest) (hrest : (rest.map fun v => v.category).sum ≤ 8) (hdg : decode cc pc = .ok (.invokevirtual idx, 3))
    (kk : ∀ (r : Int32) (u : S) (H : Heap) (locs : List Loc), post r u → pb_W D A H0 (w1 ++ wf u) H locs → W p l e R s m args below meth c H locs (cells + mc) (slots + ms) Q (F0 m (pc + 3) ls (.int r :: rest))) : W p l e R s m args below meth c H locs cells slots Q (F0 m pc ls st) := by
  obtain ⟨hP2, hD2, hF, hjoin⟩ := pb_tail hw hA
  obtain ⟨hx, hb, hml, hown, hG, hkn, hR1, hR2⟩ := C
  subst hst
  refine va_calli (va_runV (As := As) (rest := rest) ⟨hx, hb, hml, hown, hG⟩ hM (pb_cw hG cal hlk rfl rfl ⟨Nat.le_trans hd.1 hR1, Nat.le_trans hd.2 hR2⟩) ⟨pb_P_bl, ?_, fun U hU hW => ⟨rfl, by rw [hU], by rw [hU]; exact hP2, hkn.warm hW, hD2.weaken (fun _ _ _ _ => trivial)⟩⟩ rfl hn hls rfl (lv_room hrest) hdg hf) hw.2.2 (fun q _ h => hF q h) hF (fun r u t H1 locs1 ht hvm hp hB hz1 hk1 hS1 => ?_)
  · rw [← hqc]; exact va_recv hkn.1 hP2 hc hq
  · obtain ⟨hP1, hD1⟩ := hB
    rw [ht] at hP1
    exact kk r u H1 locs1 hp (hjoin H1 locs1 (wf u) hS1 hP1 hD1 hk1)
/-- an array of n rows of 64 bytes -/
theorem pb_multi {n idx : Nat} (C : pb_C D k own cc nL fr lo p R s m args c) (hA : ∀ q, H0.size ≤ q → A q) (hw : pb_W D A H0 ws H locs) (hlk : Cond.classLink own idx "[[B" ∈ pb_G) (hn : 0 < n) (hn2 : n ≤ 64) (hcells : cells + (n + 1) ≤ R.cells) (hslots : slots + 65 * n ≤ R.slots) (hdg : decode cc pc = .ok (.multianewarray idx 2, 4))
    (kk : ∀ (q : Nat) (ra : Nat → Nat) (H : Heap) (locs : List Loc), pb_W D A H0 ((ws ++ [(q, .inl (k 2, n, .inr (.inr (.inr (.inr (fun j => some (ra j)))))))]) ++ pb_rows ra k n (fun _ _ => 0)) H locs → W p l e R s m args below meth c H locs (cells + (n + 1)) (slots + 65 * n) Q (F0 m (pc + 4) ls (.ref q :: rest))) : W p l e R s m args below meth c H locs cells slots Q (F0 m pc ls (.int (nI 64) :: .int (nI n) :: rest)) := by
  obtain ⟨hx, hb, hml, hown, hG, hkn, hR1, hR2⟩ := C
  obtain ⟨kA, kB, comp, f0, f1, f2, f3, f4⟩ := hkn.2.2
  refine pb_Wmulti hx hb hown (hG _ hlk) f0 f1 f2 f3 f4 rfl hdg rfl hn hn2 hcells hslots (fun H1 L hz ho ha hr hL => ?_)
  obtain ⟨hP, hD, hS⟩ := hw
  refine kk H.size (fun j => H.size + 1 + j) H1 (locs ++ L) ⟨?_, ?_, ?_⟩
  · refine va_P.app (va_P.app (hP.kept (fun i q hq => ho q.1 ((hP i q hq).lt))) ?_) ?_
    · intro i q hq
      match i, hq with
      | 0, hq => cases hq; exact ha
      | i + 1, hq => simp at hq
    · intro i q hq
      rw [List.getElem?_map] at hq
      obtain ⟨j, hj, rfl⟩ := Option.map_eq_some_iff.mp hq
      have hj2 : j < n := List.mem_range.mp (List.mem_of_getElem? hj)
      show H1[H.size + 1 + j]? = some (vp_cell _ _)
      rw [hr j hj2]
      rfl
  · have hlt : ∀ (i : Nat) (q : Nat × va_E), ws[i]? = some q → q.1 < H.size := fun i q hq => (hP i q hq).lt
    refine va_D.app (va_D.push hD hP rfl (hA _ hS.1)) ⟨?_, ?_⟩ ?_
    · intro i j x y hx hy hxy
      rw [List.getElem?_map] at hx hy
      obtain ⟨i2, hi2, rfl⟩ := Option.map_eq_some_iff.mp hx
      obtain ⟨j2, hj2, rfl⟩ := Option.map_eq_some_iff.mp hy
      have h1 : i < n := by simpa using (List.getElem?_eq_some_iff.mp hi2).1
      have h2 : j < n := by simpa using (List.getElem?_eq_some_iff.mp hj2).1
      rw [List.getElem?_range h1] at hi2
      rw [List.getElem?_range h2] at hj2
      cases hi2; cases hj2
      have : H.size + 1 + i = H.size + 1 + j := hxy
      omega
    · intro i q hq
      rw [List.getElem?_map] at hq
      obtain ⟨j, hj, rfl⟩ := Option.map_eq_some_iff.mp hq
      exact hA _ (by show H0.size ≤ H.size + 1 + j; have := hS.1; omega)
    · intro i j x y hx hy hxy
      rw [List.getElem?_map] at hy
      obtain ⟨j2, hj2, rfl⟩ := Option.map_eq_some_iff.mp hy
      rcases List.mem_append.mp (List.mem_of_getElem? hx) with h | h
      · obtain ⟨i2, hi2⟩ := List.getElem?_of_mem h
        have := hlt i2 x hi2
        have : x.1 = H.size + 1 + j2 := hxy
        omega
      · rw [List.mem_singleton.mp h] at hxy
        have : H.size = H.size + 1 + j2 := hxy
        omega
  · refine ⟨by have := hS.1; omega, fun q h1 h2 => (ho q (Nat.lt_of_lt_of_le h1 hS.1)).trans (hS.2.1 q h1 h2), fun q hq => ?_⟩
    rcases List.mem_append.mp hq with h | h
    · exact hS.2.2 q h
    · rw [hL q h]; exact hA _ hS.1
end PBN
end
section
-- ===== constructors (by gen/m9.py) =====
set_option maxHeartbeats 4000000 in
set_option maxRecDepth 100000 in
theorem c_Pn_init (l : Launch) (D : va_G) (k : Nat → ClassId) (h o : Nat) (sz0 : Nat)  : Met l y_Pn_init (pb_ws y_Pn_init b_Pn_init 2 none) (pb_rm 1 (3) (387)) (pb_P D k [.ref h, .ref o] ([(h, .inr (1, [.null, .null, .null, .null, .int (nI 0)]))]) sz0) (pb_QV D ([(h, .inr (1, [.null, .null, .null, .null, .int (nI 0)]))]) sz0 (fun (u : Nat × Nat × Nat) => True) (fun (u : Nat × Nat × Nat) => [(h, .inr (1, [.ref o, .ref u.1, .ref u.2.1, .ref u.2.2, .int (nI 0)])), (u.1, pb_I (k 1) 129 (fun _ => 0)), (u.2.1, pb_I (k 1) 129 (fun _ => 0)), (u.2.2, pb_B (k 0) 129 (fun _ => 0))])) (3) (387) (va_A ([(h, .inr (1, [.null, .null, .null, .null, .int (nI 0)]))]) sz0) := by
  refine pb_mkV R_Pn rfl (by decide) (Nat.le_of_ble_eq_true rfl) ?_
  intro p e R s m args below meth c Q A ls C hRc hA hw hl hini kr
  have hin := hini rfl
  obtain ⟨H, hH⟩ : ∃ H : Heap, H = s.heap := ⟨_, rfl⟩
  obtain ⟨locs, hL⟩ : ∃ L : List Loc, L = [] := ⟨_, rfl⟩
  have hw : pb_W D A s.heap ([(h, .inr (1, [.null, .null, .null, .null, .int (nI 0)]))]) H locs := by rw [hH, hL]; exact hw
  rw [show W p l e R s m args below meth c s.heap [] 0 0 Q (F0 m 0 ls []) = W p l e R s m args below meth c H locs 0 0 Q (F0 m 0 ls []) by rw [hH, hL]]
  clear hH hL
  obtain ⟨hx, hb, hml, hown, hG, hkn, hR1, hR2⟩ := id C
  have hl : lv_has ls 2 [(0, .ref h), (1, .ref o)] := hl
  refine lv_aload_n hx hb d_Pn_init_0 rfl (lv_at hl 0 rfl) ?_
  refine W.objInit hx hb hown (hG _ m_33) (hG _ m_18) (hG _ m_19) rfl (by rw [hml]; exact hl.1) rfl d_Pn_init_1 (Nat.le_trans (by decide) hR1) (Nat.le_trans (Nat.le_of_ble_eq_true rfl) hR2) ?_
  refine W.eq (g2 := F0 m 4 ls []) rfl ?_
  refine lv_aload_n hx hb d_Pn_init_4 rfl (lv_at hl 0 rfl) ?_
  refine lv_sipush (v := nI 129) hx hb d_Pn_init_5 (by decide +kernel) ?_
  refine pb_newi C hA hw (by decide) (by rw [hRc.1]; decide) (by rw [hRc.2]; decide) d_Pn_init_8 (fun q8 H locs hw => ?_)
  have hw : pb_W D A s.heap ([(h, .inr (1, [.null, .null, .null, .null, .int (nI 0)])), (q8, pb_I (k 1) 129 (fun _ => 0))]) H locs := hw
  refine pb_putF (ty := .array .int) (ws' := [(h, .inr (1, [.null, .ref q8, .null, .null, .int (nI 0)])), (q8, pb_I (k 1) 129 (fun _ => 0))]) C hw i_Pn t_Pn t_Pn_ok n_Pn 0 rfl rfl 1 (by decide) m_35 rfl hin rfl (by decide +kernel) rfl rfl (Nat.le_of_ble_eq_true rfl) rfl d_Pn_init_10 (fun H locs hw => ?_)
  refine lv_aload_n hx hb d_Pn_init_13 rfl (lv_at hl 0 rfl) ?_
  refine lv_sipush (v := nI 129) hx hb d_Pn_init_14 (by decide +kernel) ?_
  refine pb_newi C hA hw (by decide) (by rw [hRc.1]; decide) (by rw [hRc.2]; decide) d_Pn_init_17 (fun q17 H locs hw => ?_)
  have hw : pb_W D A s.heap ([(h, .inr (1, [.null, .ref q8, .null, .null, .int (nI 0)])), (q8, pb_I (k 1) 129 (fun _ => 0)), (q17, pb_I (k 1) 129 (fun _ => 0))]) H locs := hw
  refine pb_putF (ty := .array .int) (ws' := [(h, .inr (1, [.null, .ref q8, .ref q17, .null, .int (nI 0)])), (q8, pb_I (k 1) 129 (fun _ => 0)), (q17, pb_I (k 1) 129 (fun _ => 0))]) C hw i_Pn t_Pn t_Pn_ok n_Pn 0 rfl rfl 2 (by decide) m_36 rfl hin rfl (by decide +kernel) rfl rfl (Nat.le_of_ble_eq_true rfl) rfl d_Pn_init_19 (fun H locs hw => ?_)
  refine lv_aload_n hx hb d_Pn_init_22 rfl (lv_at hl 0 rfl) ?_
  refine lv_sipush (v := nI 129) hx hb d_Pn_init_23 (by decide +kernel) ?_
  refine pb_newb C hA hw (by decide) (by rw [hRc.1]; decide) (by rw [hRc.2]; decide) d_Pn_init_26 (fun q26 H locs hw => ?_)
  have hw : pb_W D A s.heap ([(h, .inr (1, [.null, .ref q8, .ref q17, .null, .int (nI 0)])), (q8, pb_I (k 1) 129 (fun _ => 0)), (q17, pb_I (k 1) 129 (fun _ => 0)), (q26, pb_B (k 0) 129 (fun _ => 0))]) H locs := hw
  refine pb_putF (ty := .array .byte) (ws' := [(h, .inr (1, [.null, .ref q8, .ref q17, .ref q26, .int (nI 0)])), (q8, pb_I (k 1) 129 (fun _ => 0)), (q17, pb_I (k 1) 129 (fun _ => 0)), (q26, pb_B (k 0) 129 (fun _ => 0))]) C hw i_Pn t_Pn t_Pn_ok n_Pn 0 rfl rfl 3 (by decide) m_37 rfl hin rfl (by decide +kernel) rfl rfl (Nat.le_of_ble_eq_true rfl) rfl d_Pn_init_28 (fun H locs hw => ?_)
  refine lv_aload_n hx hb d_Pn_init_31 rfl (lv_at hl 0 rfl) ?_
  refine lv_aload_n hx hb d_Pn_init_32 rfl (lv_at hl 1 rfl) ?_
  refine pb_putF (ty := .array (.array .byte)) (ws' := [(h, .inr (1, [.ref o, .ref q8, .ref q17, .ref q26, .int (nI 0)])), (q8, pb_I (k 1) 129 (fun _ => 0)), (q17, pb_I (k 1) 129 (fun _ => 0)), (q26, pb_B (k 0) 129 (fun _ => 0))]) C hw i_Pn t_Pn t_Pn_ok n_Pn 0 rfl rfl 0 (by decide) m_34 rfl hin rfl (by decide +kernel) rfl rfl (Nat.le_of_ble_eq_true rfl) rfl d_Pn_init_33 (fun H locs hw => ?_)
  exact kr _ _ _ _ (q8, q17, q26) d_Pn_init_36 hw trivial
/-- the number of blocks -/
def pb_clamp (x : Int32) (n : Nat) : Prop := (x < nI 4 ∧ n = 4) ∨ (nI 64 < x ∧ n = 64) ∨ (x = nI n ∧ 4 ≤ n ∧ n ≤ 64)
/-- the store at the start -/
def pb_M0 : Nat → Nat → Nat := pb_put1 (pb_rowf (fun _ _ => 0) 1 64 (pb_seal (pb_root 0 (fun _ => 0) 64))) 0 0 1
/-- an address map of six cells -/
def pb_ad (h0 h1 h2 h3 h4 h5 : Nat) : Nat → Nat := fun j => match j with | 0 => h0 | 1 => h1 | 2 => h2 | 3 => h3 | 4 => h4 | _ => h5
def pb_ad9 (h0 h1 h2 h3 h4 h5 h6 h7 h8 : Nat) : Nat → Nat := fun j => match j with | 0 => h0 | 1 => h1 | 2 => h2 | 3 => h3 | 4 => h4 | 5 => h5 | 6 => h6 | 7 => h7 | _ => h8
theorem pb_flat0 : (fun _ => 0) = pb_flat (fun _ _ => 0) := rfl
theorem pb_num4 {x : Int32} (h1 : nI 4 ≤ x) (h2 : x ≤ nI 64) : ∃ j, 4 ≤ j ∧ j ≤ 64 ∧ x = nI j := by
  have hz : ¬ x < 0 := fun q => absurd (Int32.lt_of_le_of_lt h1 q) (by decide +kernel)
  obtain ⟨j, hj, rfl⟩ := pb_num (by decide) hz (Int32.not_lt.mpr h2)
  exact ⟨j, (nI_leI (by decide) (by omega)).mp h1, hj, rfl⟩
set_option maxHeartbeats 4000000 in
set_option maxRecDepth 100000 in
theorem c_Md_init (l : Launch) (D : va_G) (k : Nat → ClassId) (h : Nat) (x : Int32) (sz0 : Nat)  : Met l y_Md_init (pb_ws y_Md_init b_Md_init 2 none) (pb_rm 3 (5) (4442)) (pb_P D k [.ref h, .int x] ([(h, .inr (2, [.int (nI 0), .null, .int (nI 0), .int (nI 0), .int (nI 0), .int (nI 0), .null, .null, .int (nI 0), .null, .null, .int (nI 0)]))]) sz0) (pb_QV D ([(h, .inr (2, [.int (nI 0), .null, .int (nI 0), .int (nI 0), .int (nI 0), .int (nI 0), .null, .null, .int (nI 0), .null, .null, .int (nI 0)]))]) sz0 (fun (u : (Nat → Nat) × Nat × (Nat → Nat) × (Nat → Nat)) => u.1 0 = h ∧ pb_clamp x u.2.1) (fun (u : (Nat → Nat) × Nat × (Nat → Nat) × (Nat → Nat)) => md_W u.1 k u.2.1 1 1 0 0 0 0 (pb_flat pb_M0) (fun _ => 0) (fun _ => 0) u.2.2.1 u.2.2.2)) (5) (4442) (va_A ([(h, .inr (2, [.int (nI 0), .null, .int (nI 0), .int (nI 0), .int (nI 0), .int (nI 0), .null, .null, .int (nI 0), .null, .null, .int (nI 0)]))]) sz0) := by
  refine pb_mkV R_Md rfl (by decide) (Nat.le_of_ble_eq_true rfl) ?_
  intro p e R s m args below meth c Q A ls C hRc hA hw hl hini kr
  have hin := hini rfl
  obtain ⟨H, hH⟩ : ∃ H : Heap, H = s.heap := ⟨_, rfl⟩
  obtain ⟨locs, hL⟩ : ∃ L : List Loc, L = [] := ⟨_, rfl⟩
  have hw : pb_W D A s.heap ([(h, .inr (2, [.int (nI 0), .null, .int (nI 0), .int (nI 0), .int (nI 0), .int (nI 0), .null, .null, .int (nI 0), .null, .null, .int (nI 0)]))]) H locs := by rw [hH, hL]; exact hw
  rw [show W p l e R s m args below meth c s.heap [] 0 0 Q (F0 m 0 ls []) = W p l e R s m args below meth c H locs 0 0 Q (F0 m 0 ls []) by rw [hH, hL]]
  clear hH hL
  obtain ⟨hx, hb, hml, hown, hG, hkn, hR1, hR2⟩ := id C
  have hl : lv_has ls 2 [(0, .ref h), (1, .int x)] := hl
  refine lv_aload_n hx hb d_Md_init_0 rfl (lv_at hl 0 rfl) ?_
  refine W.objInit hx hb hown (hG _ m_282) (hG _ m_18) (hG _ m_19) rfl (by rw [hml]; exact hl.1) rfl d_Md_init_1 (Nat.le_trans (by decide) hR1) (Nat.le_trans (Nat.le_of_ble_eq_true rfl) hR2) ?_
  refine W.eq (g2 := F0 m 4 ls []) rfl ?_
  refine lv_aload_n hx hb d_Md_init_4 rfl (lv_at hl 0 rfl) ?_
  refine lv_sipush (v := nI 4096) hx hb d_Md_init_5 (by decide +kernel) ?_
  refine pb_newi C hA hw (by decide) (by rw [hRc.1]; decide) (by rw [hRc.2]; decide) d_Md_init_8 (fun q8 H locs hw => ?_)
  have hw : pb_W D A s.heap ([(h, .inr (2, [.int (nI 0), .null, .int (nI 0), .int (nI 0), .int (nI 0), .int (nI 0), .null, .null, .int (nI 0), .null, .null, .int (nI 0)])), (q8, pb_I (k 1) 4096 (fun _ => 0))]) H locs := hw
  refine pb_putF (ty := .array .int) (ws' := [(h, .inr (2, [.int (nI 0), .ref q8, .int (nI 0), .int (nI 0), .int (nI 0), .int (nI 0), .null, .null, .int (nI 0), .null, .null, .int (nI 0)])), (q8, pb_I (k 1) 4096 (fun _ => 0))]) C hw i_Md t_Md t_Md_ok n_Md 0 rfl rfl 1 (by decide) m_301 rfl hin rfl (by decide +kernel) rfl rfl (Nat.le_of_ble_eq_true rfl) rfl d_Md_init_10 (fun H locs hw => ?_)
  refine lv_aload_n hx hb d_Md_init_13 rfl (lv_at hl 0 rfl) ?_
  refine lv_bipush (v := nI 40) hx hb d_Md_init_14 (by decide +kernel) ?_
  refine pb_newi C hA hw (by decide) (by rw [hRc.1]; decide) (by rw [hRc.2]; decide) d_Md_init_16 (fun q16 H locs hw => ?_)
  have hw : pb_W D A s.heap ([(h, .inr (2, [.int (nI 0), .ref q8, .int (nI 0), .int (nI 0), .int (nI 0), .int (nI 0), .null, .null, .int (nI 0), .null, .null, .int (nI 0)])), (q8, pb_I (k 1) 4096 (fun _ => 0)), (q16, pb_I (k 1) 40 (fun _ => 0))]) H locs := hw
  refine pb_putF (ty := .array .int) (ws' := [(h, .inr (2, [.int (nI 0), .ref q8, .int (nI 0), .int (nI 0), .int (nI 0), .int (nI 0), .ref q16, .null, .int (nI 0), .null, .null, .int (nI 0)])), (q8, pb_I (k 1) 4096 (fun _ => 0)), (q16, pb_I (k 1) 40 (fun _ => 0))]) C hw i_Md t_Md t_Md_ok n_Md 0 rfl rfl 6 (by decide) m_306 rfl hin rfl (by decide +kernel) rfl rfl (Nat.le_of_ble_eq_true rfl) rfl d_Md_init_18 (fun H locs hw => ?_)
  refine lv_aload_n hx hb d_Md_init_21 rfl (lv_at hl 0 rfl) ?_
  refine lv_bipush (v := nI 48) hx hb d_Md_init_22 (by decide +kernel) ?_
  refine pb_newi C hA hw (by decide) (by rw [hRc.1]; decide) (by rw [hRc.2]; decide) d_Md_init_24 (fun q24 H locs hw => ?_)
  have hw : pb_W D A s.heap ([(h, .inr (2, [.int (nI 0), .ref q8, .int (nI 0), .int (nI 0), .int (nI 0), .int (nI 0), .ref q16, .null, .int (nI 0), .null, .null, .int (nI 0)])), (q8, pb_I (k 1) 4096 (fun _ => 0)), (q16, pb_I (k 1) 40 (fun _ => 0)), (q24, pb_I (k 1) 48 (fun _ => 0))]) H locs := hw
  refine pb_putF (ty := .array .int) (ws' := [(h, .inr (2, [.int (nI 0), .ref q8, .int (nI 0), .int (nI 0), .int (nI 0), .int (nI 0), .ref q16, .ref q24, .int (nI 0), .null, .null, .int (nI 0)])), (q8, pb_I (k 1) 4096 (fun _ => 0)), (q16, pb_I (k 1) 40 (fun _ => 0)), (q24, pb_I (k 1) 48 (fun _ => 0))]) C hw i_Md t_Md t_Md_ok n_Md 0 rfl rfl 7 (by decide) m_307 rfl hin rfl (by decide +kernel) rfl rfl (Nat.le_of_ble_eq_true rfl) rfl d_Md_init_26 (fun H locs hw => ?_)
  refine lv_aload_n hx hb d_Md_init_29 rfl (lv_at hl 0 rfl) ?_
  refine lv_sipush (v := nI 129) hx hb d_Md_init_30 (by decide +kernel) ?_
  refine pb_newi C hA hw (by decide) (by rw [hRc.1]; decide) (by rw [hRc.2]; decide) d_Md_init_33 (fun q33 H locs hw => ?_)
  have hw : pb_W D A s.heap ([(h, .inr (2, [.int (nI 0), .ref q8, .int (nI 0), .int (nI 0), .int (nI 0), .int (nI 0), .ref q16, .ref q24, .int (nI 0), .null, .null, .int (nI 0)])), (q8, pb_I (k 1) 4096 (fun _ => 0)), (q16, pb_I (k 1) 40 (fun _ => 0)), (q24, pb_I (k 1) 48 (fun _ => 0)), (q33, pb_I (k 1) 129 (fun _ => 0))]) H locs := hw
  refine pb_putF (ty := .array .int) (ws' := [(h, .inr (2, [.int (nI 0), .ref q8, .int (nI 0), .int (nI 0), .int (nI 0), .int (nI 0), .ref q16, .ref q24, .int (nI 0), .ref q33, .null, .int (nI 0)])), (q8, pb_I (k 1) 4096 (fun _ => 0)), (q16, pb_I (k 1) 40 (fun _ => 0)), (q24, pb_I (k 1) 48 (fun _ => 0)), (q33, pb_I (k 1) 129 (fun _ => 0))]) C hw i_Md t_Md t_Md_ok n_Md 0 rfl rfl 9 (by decide) m_309 rfl hin rfl (by decide +kernel) rfl rfl (Nat.le_of_ble_eq_true rfl) rfl d_Md_init_35 (fun H locs hw => ?_)
  refine lv_aload_n hx hb d_Md_init_38 rfl (lv_at hl 0 rfl) ?_
  refine lv_sipush (v := nI 129) hx hb d_Md_init_39 (by decide +kernel) ?_
  refine pb_newi C hA hw (by decide) (by rw [hRc.1]; decide) (by rw [hRc.2]; decide) d_Md_init_42 (fun q42 H locs hw => ?_)
  have hw : pb_W D A s.heap ([(h, .inr (2, [.int (nI 0), .ref q8, .int (nI 0), .int (nI 0), .int (nI 0), .int (nI 0), .ref q16, .ref q24, .int (nI 0), .ref q33, .null, .int (nI 0)])), (q8, pb_I (k 1) 4096 (fun _ => 0)), (q16, pb_I (k 1) 40 (fun _ => 0)), (q24, pb_I (k 1) 48 (fun _ => 0)), (q33, pb_I (k 1) 129 (fun _ => 0)), (q42, pb_I (k 1) 129 (fun _ => 0))]) H locs := hw
  refine pb_putF (ty := .array .int) (ws' := [(h, .inr (2, [.int (nI 0), .ref q8, .int (nI 0), .int (nI 0), .int (nI 0), .int (nI 0), .ref q16, .ref q24, .int (nI 0), .ref q33, .ref q42, .int (nI 0)])), (q8, pb_I (k 1) 4096 (fun _ => 0)), (q16, pb_I (k 1) 40 (fun _ => 0)), (q24, pb_I (k 1) 48 (fun _ => 0)), (q33, pb_I (k 1) 129 (fun _ => 0)), (q42, pb_I (k 1) 129 (fun _ => 0))]) C hw i_Md t_Md t_Md_ok n_Md 0 rfl rfl 10 (by decide) m_310 rfl hin rfl (by decide +kernel) rfl rfl (Nat.le_of_ble_eq_true rfl) rfl d_Md_init_44 (fun H locs hw => ?_)
  have fin : ∀ (n : Nat), pb_clamp x n → 4 ≤ n → n ≤ 64 → W p l e R s m args below meth c H locs (0 + 1 + 1 + 1 + 1 + 1) (0 + 4096 + 40 + 48 + 129 + 129) Q (F0 m 69 ls [.int (nI n), .ref h]) := by
    intro n hcl hn4 hn64
    refine pb_putF (ty := .int) (ws' := [(h, .inr (2, [.int (nI n), .ref q8, .int (nI 0), .int (nI 0), .int (nI 0), .int (nI 0), .ref q16, .ref q24, .int (nI 0), .ref q33, .ref q42, .int (nI 0)])), (q8, pb_I (k 1) 4096 (fun _ => 0)), (q16, pb_I (k 1) 40 (fun _ => 0)), (q24, pb_I (k 1) 48 (fun _ => 0)), (q33, pb_I (k 1) 129 (fun _ => 0)), (q42, pb_I (k 1) 129 (fun _ => 0))]) C hw i_Md t_Md t_Md_ok n_Md 0 rfl rfl 0 (by decide) m_300 rfl hin rfl (by decide +kernel) rfl rfl (Nat.le_of_ble_eq_true rfl) rfl d_Md_init_69 (fun H locs hw => ?_)
    have hw : pb_W D A s.heap (md_W (pb_ad h q8 q16 q24 q33 q42) k n 0 0 0 0 0 0 (pb_flat (fun _ _ => 0)) (fun _ => 0) (fun _ => 0) (fun _ => 0) (fun _ => 0)) H locs := hw
    generalize hcE : (0 + 1 + 1 + 1 + 1 + 1) = cE
    generalize hsE : (0 + 4096 + 40 + 48 + 129 + 129) = sE
    have hl : lv_has ls 2 [(0, .ref ((pb_ad h q8 q16 q24 q33 q42) 0)), (1, .int x)] := hl
    refine lv_aload_n hx hb d_Md_init_72 rfl (lv_at hl 0 rfl) ?_
    refine lv_iconst (v := nI 1) hx hb d_Md_init_73 (by decide +kernel) ?_
    refine md_p_turn (v := 1) C hw d_Md_init_74 (fun H locs hw => ?_)
    refine lv_aload_n hx hb d_Md_init_77 rfl (lv_at hl 0 rfl) ?_
    refine lv_iconst (v := nI 1) hx hb d_Md_init_78 (by decide +kernel) ?_
    refine md_p_open (v := 1) C hw (by decide) d_Md_init_79 (fun H locs hw => ?_)
    refine lv_aload_n hx hb d_Md_init_82 rfl (lv_at hl 0 rfl) ?_
    refine lv_iconst (v := nI 1) hx hb d_Md_init_83 (by decide +kernel) ?_
    refine lv_iconst (v := -1) hx hb d_Md_init_84 (by decide +kernel) ?_
    refine pb_vV (As := [.int (nI 1), .int (-1)]) (rest := []) C hA hw k_Md_writeRoot m_283 (c_Md_writeRoot l D (pb_ad h q8 q16 q24 q33 q42) k n 1 1 0 0 0 0 (fun _ => 0) (fun _ => 0) (fun _ => 0) (fun _ => 0) (fun _ _ => 0) 1 (-1) 64 (fun _ => 0) (pb_seal (pb_root 0 (fun _ => 0) 64)) _ (by decide) (by decide) (fun z hz => ⟨fun g => absurd g (pb_ne_m1 (by omega)), fun g => by omega⟩) (Or.inl ⟨by decide +kernel, by decide⟩) (fun z hz => rfl) (fun j hj => pb_seal_in hj) (fun j hj => pb_seal_end hj) (by decide)) rfl hl.1 0 2 rfl rfl rfl ⟨by decide, by decide⟩ ⟨by rw [hRc.1, ← hcE]; decide, by rw [hRc.2, ← hsE]; decide⟩ rfl (Nat.le_of_ble_eq_true rfl) d_Md_init_85 (fun u85 H locs h85 hw => ?_)
    refine lv_aload_n hx hb d_Md_init_88 rfl (lv_at hl 0 rfl) ?_
    refine lv_iconst (v := nI 0) hx hb d_Md_init_89 (by decide +kernel) ?_
    refine lv_iconst (v := nI 1) hx hb d_Md_init_90 (by decide +kernel) ?_
    refine pb_vV (As := [.int (nI 0), .int (nI 1)]) (rest := []) C hA hw k_Md_write m_287 (c_Md_write l D (pb_ad h q8 q16 q24 q33 q42) k n 1 1 0 0 0 (0 + 64) (fun _ => 0) (fun _ => 0) (pb_fill (fun _ => 0) 0 64 (fun j => 64 * 1 + j)) (pb_fill (fun _ => 0) 0 64 (fun j => 0)) (pb_rowf (fun _ _ => 0) 1 64 (pb_seal (pb_root 0 (fun _ => 0) 64))) 0 0 0 1 _ (by decide) (by decide) rfl (by decide)) rfl hl.1 0 2 rfl rfl rfl ⟨by decide, by decide⟩ ⟨by rw [hRc.1, ← hcE]; decide, by rw [hRc.2, ← hsE]; decide⟩ rfl (Nat.le_of_ble_eq_true rfl) d_Md_init_91 (fun u91 H locs h91 hw => ?_)
    refine lv_aload_n hx hb d_Md_init_94 rfl (lv_at hl 0 rfl) ?_
    refine lv_iconst (v := nI 0) hx hb d_Md_init_95 (by decide +kernel) ?_
    refine md_p_written (v := 0) C hw d_Md_init_96 (fun H locs hw => ?_)
    subst hcE; subst hsE
    exact kr _ _ _ _ ((pb_ad h q8 q16 q24 q33 q42), n, _, _) d_Md_init_99 hw ⟨rfl, hcl⟩
  refine lv_aload_n hx hb d_Md_init_47 rfl (lv_at hl 0 rfl) ?_
  refine lv_iload_n hx hb d_Md_init_48 rfl (lv_at hl 1 rfl) ?_
  refine lv_iconst (v := nI 4) hx hb d_Md_init_49 (by decide +kernel) ?_
  refine lv_icmp_ge (tgt := 57) hx hb d_Md_init_50 (by decide) (fun c_1 => ?_) (fun c_1 => ?_)
  · refine lv_iload_n hx hb d_Md_init_57 rfl (lv_at hl 1 rfl) ?_
    refine lv_bipush (v := nI 64) hx hb d_Md_init_58 (by decide +kernel) ?_
    refine lv_icmp_le (tgt := 68) hx hb d_Md_init_60 (by decide) (fun c_2 => ?_) (fun c_2 => ?_)
    · refine lv_iload_n hx hb d_Md_init_68 rfl (lv_at hl 1 rfl) ?_
      obtain ⟨n, hn4, hn64, rfl⟩ := pb_num4 c_1 c_2
      exact fin n (Or.inr (Or.inr ⟨rfl, hn4, hn64⟩)) hn4 hn64
    · refine lv_bipush (v := nI 64) hx hb d_Md_init_63 (by decide +kernel) ?_
      refine lv_goto (tgt := 69) hx hb d_Md_init_65 (by decide) ?_
      exact fin 64 (Or.inr (Or.inl ⟨Int32.not_le.mp c_2, rfl⟩)) (by decide) (by decide)
  · refine lv_iconst (v := nI 4) hx hb d_Md_init_53 (by decide +kernel) ?_
    refine lv_goto (tgt := 69) hx hb d_Md_init_54 (by decide) ?_
    exact fin 4 (Or.inl ⟨Int32.not_le.mp c_1, rfl⟩) (by decide) (by decide)
end
section
-- ===== the book's constructor (by gen/m10.py) =====
theorem pb_clampB (x : Int32) : ∃ n, pb_clamp x n ∧ 4 ≤ n ∧ n ≤ 64 ∧ (if nI 4 < (if x < nI 64 then x else nI 64) then (if x < nI 64 then x else nI 64) else nI 4) = nI n := by
  by_cases h1 : x < nI 4
  · refine ⟨4, Or.inl ⟨h1, rfl⟩, by decide, by decide, ?_⟩
    have h2 : x < nI 64 := Int32.lt_trans h1 (by decide +kernel)
    rw [if_pos h2, if_neg (fun q => absurd (Int32.lt_trans q h1) (by decide +kernel))]
  · by_cases h2 : x < nI 64
    · obtain ⟨j, h4, h64, rfl⟩ := pb_num4 (Int32.not_lt.mp h1) (Int32.le_of_lt h2)
      refine ⟨j, Or.inr (Or.inr ⟨rfl, h4, h64⟩), h4, h64, ?_⟩
      rw [if_pos h2]
      by_cases h3 : nI 4 < nI j
      · rw [if_pos h3]
      · rw [if_neg h3]
        have := (nI_ltI (a := 4) (b := j) (by decide) (by omega))
        have h5 : ¬ 4 < j := fun q => h3 (this.mpr q)
        rw [show j = 4 by omega]
    · by_cases h3 : x = nI 64
      · subst h3
        exact ⟨64, Or.inr (Or.inr ⟨rfl, by decide, by decide⟩), by decide, by decide, by decide +kernel⟩
      · refine ⟨64, Or.inr (Or.inl ⟨Int32.lt_of_le_of_ne (Int32.not_lt.mp h2) (fun q => h3 q.symm), rfl⟩), by decide, by decide, ?_⟩
        rw [if_neg h2]
        decide +kernel
theorem pb_root0_lt (j : Nat) : pb_root 0 (fun _ => 0) 64 j < 256 := pb_root_lt (by decide) (fun _ h => absurd h (Nat.not_lt_zero _)) j
theorem pb_M0_lt : ∀ x j, pb_M0 x j < 256 := pb_put1_lt (pb_rowf_lt (fun _ _ => Nat.zero_lt_succ 255) (fun j _ => pb_seal_lt pb_root0_lt j)) (by decide)
theorem pb_M0_00 : pb_M0 0 0 = 1 := by
  unfold pb_M0 pb_put1
  rw [va_up_self, va_up_self]
theorem pb_M0_1 {j : Nat} (hj : j < 64) : pb_M0 1 j = pb_seal (pb_root 0 (fun _ => 0) 64) j := by
  unfold pb_M0 pb_put1
  rw [va_up_ne _ _ (by decide), pb_rowf_in hj]
theorem pb_M0_10 : pb_M0 1 0 = 0 := by
  rw [pb_M0_1 (by decide), pb_seal_in (by decide)]
  rfl
theorem pb_M0_r : pb_right (pb_M0 1) := by
  rw [pb_right_congr (g := pb_seal (pb_root 0 (fun _ => 0) 64)) (fun i hi => pb_M0_1 hi)]
  exact fun j hj => pb_seal_end hj
theorem pb_M0_k (n : Nat) : pb_rok n (pb_M0 1) := ⟨by rw [pb_M0_10]; decide, fun q hq => by rw [pb_M0_10] at hq; omega⟩
theorem pb_re0 {n z : Nat} {r : Int32} (h : pb_reops n pb_M0 r z) : z = 1 := by
  rcases h with ⟨h1, -⟩ | ⟨-, h2, -⟩ | ⟨-, -, -, ⟨w, ⟨⟨e, he, -⟩, -⟩, -⟩, -⟩ | ⟨-, -, -, -, -, h⟩
  · exact absurd pb_M0_00 h1
  · rw [pb_M0_00] at h2
    exact absurd ⟨pb_M0_r, pb_M0_k n⟩ h2
  · rw [pb_M0_00, pb_M0_10] at he
    omega
  · exact h
theorem pb_swap {D : va_G} {A : Nat → Prop} {H0 H : Heap} {a b c : va_W} {locs : List Loc} (h : pb_W D A H0 ((a ++ b) ++ c) H locs) : pb_W D A H0 ((a ++ c) ++ b) H locs := ⟨h.1.swap, h.2.1.swap, h.2.2⟩
theorem pb_part {D : va_G} {A : Nat → Prop} {H0 H : Heap} {X cx pl : va_W} {locs : List Loc} (h : pb_W D A H0 (X ++ pl) H locs) (is : List Nat) (hn : va_nd is = true) (hs : is.map (fun i => X[i]?) = cx.map some) : pb_W D A H0 (cx ++ pl) H locs := ⟨h.1.part is hs, h.2.1.part is hn hs, h.2.2⟩
section PBO
variable {p : Program} {l : Launch} {e : Env} {R : Room} {s : State} {m : MethodId} {args : Array Value} {below : List Frame} {meth : Method} {c : Code} {H : Heap} {locs : List Loc} {cells slots : Nat} {Q : State → Prop}
variable {cc : ByteArray} {pc : Nat} {ls : Array Slot} {rest : List Value} {D : va_G} {k : Nat → ClassId} {own : String} {nL fr lo : Nat} {A : Nat → Prop} {H0 : Heap} {ws : va_W}
theorem pb_new {Cc : String} {T : u_T} {N ci idx : Nat} {fs : List Value} (C : pb_C D k own cc nL fr lo p R s m args c) (hA : ∀ q, H0.size ≤ q → A q) (hw : pb_W D A H0 ws H locs) (hin : ∀ w ∈ u_ws Cc T N, w ∈ pb_G) (ty0 : Nat → FieldType) (hty : ∀ k, k < N → parseFieldDescriptor (T k).2.2.1 = some (ty0 k)) (h1 : Cond.classLink own idx Cc ∈ pb_G) (h2 : Cond.instantiable Cc N ∈ pb_G) (h3 : Cond.initialized Cc ∈ pb_G) (hc : pb_cl[ci]? = some (Cc, T, N)) (hfs : ∀ j, j < N → defaultValue (ty0 j) = vp_V fs j) (hcells : cells + 1 ≤ R.cells) (hslots : slots + N ≤ R.slots) (hdg : decode cc pc = .ok (.new idx, 3))
    (kk : ∀ (q : Nat) (H : Heap) (locs : List Loc), pb_W D A H0 (ws ++ [(q, .inr (ci, fs))]) H locs → W p l e R s m args below meth c H locs (cells + 1) (slots + N) Q (F0 m (pc + 3) ls (.ref q :: rest))) : W p l e R s m args below meth c H locs cells slots Q (F0 m pc ls rest) :=
  va_new C.1 C.2.1 C.2.2.2.2.1 hin ty0 hty C.2.2.2.1 (C.2.2.2.2.1 _ h1) (C.2.2.2.2.1 _ h2) (C.2.2.2.2.1 _ h3) C.2.2.2.2.2.1.1 hw.1 hw.2.1 hw.2.2 hA hc hfs hcells hslots hdg (fun q H1 hP hD hS => kk q H1 locs ⟨hP, hD, hS⟩)
end PBO
set_option maxHeartbeats 4000000 in
set_option maxRecDepth 100000 in
theorem c_Bk_init (l : Launch) (D : va_G) (k : Nat → ClassId) (h : Nat) (x : Int32) (sz0 : Nat)  : Met l y_Bk_init (pb_ws y_Bk_init b_Bk_init 3 none) (pb_rm 5 (72) (4704)) (pb_P D k [.ref h, .int x] ([(h, .inr (0, [.null, .null, .null, .null, .int (nI 0), .int (nI 0), .int (nI 0), .null, .int (nI 0)]))]) sz0) (pb_QV D ([(h, .inr (0, [.null, .null, .null, .null, .int (nI 0), .int (nI 0), .int (nI 0), .null, .int (nI 0)]))]) sz0 (fun (u : (Nat → Nat) × (Nat → Nat) × Nat × (Nat → Nat) × (Nat → Nat)) => u.1 0 = h ∧ pb_clamp x u.2.2.1 ∧ ∀ j, u.2.2.2.1 j < 256) (fun (u : (Nat → Nat) × (Nat → Nat) × Nat × (Nat → Nat) × (Nat → Nat)) => bk_W u.1 u.2.1 k u.2.2.1 0 1 (nI 1) 0 0 (fun _ => 0) u.2.2.2.1 u.2.2.2.2 (fun _ => 0) (fun _ => 0) (fun _ => 0) pb_M0)) (72) (4704) (va_A ([(h, .inr (0, [.null, .null, .null, .null, .int (nI 0), .int (nI 0), .int (nI 0), .null, .int (nI 0)]))]) sz0) := by
  refine pb_mkV R_Bk rfl (by decide) (Nat.le_of_ble_eq_true rfl) ?_
  intro p e R s m args below meth c Q A ls C hRc hA hw hl hini kr
  have hin := hini rfl
  obtain ⟨H, hH⟩ : ∃ H : Heap, H = s.heap := ⟨_, rfl⟩
  obtain ⟨locs, hL⟩ : ∃ L : List Loc, L = [] := ⟨_, rfl⟩
  have hw : pb_W D A s.heap ([(h, .inr (0, [.null, .null, .null, .null, .int (nI 0), .int (nI 0), .int (nI 0), .null, .int (nI 0)]))]) H locs := by rw [hH, hL]; exact hw
  rw [show W p l e R s m args below meth c s.heap [] 0 0 Q (F0 m 0 ls []) = W p l e R s m args below meth c H locs 0 0 Q (F0 m 0 ls []) by rw [hH, hL]]
  clear hH hL
  obtain ⟨hx, hb, hml, hown, hG, hkn, hR1, hR2⟩ := id C
  have hl : lv_has ls 3 [(0, .ref h), (1, .int x)] := hl
  refine lv_aload_n hx hb d_Bk_init_0 rfl (lv_at hl 0 rfl) ?_
  refine W.objInit hx hb hown (hG _ m_17) (hG _ m_18) (hG _ m_19) rfl (by rw [hml]; exact hl.1) rfl d_Bk_init_1 (Nat.le_trans (by decide) hR1) (Nat.le_trans (Nat.le_of_ble_eq_true rfl) hR2) ?_
  refine W.eq (g2 := F0 m 4 ls []) rfl ?_
  refine lv_aload_n hx hb d_Bk_init_4 rfl (lv_at hl 0 rfl) ?_
  refine lv_bipush (v := nI 48) hx hb d_Bk_init_5 (by decide +kernel) ?_
  refine pb_newb C hA hw (by decide) (by rw [hRc.1]; decide) (by rw [hRc.2]; decide) d_Bk_init_7 (fun q7 H locs hw => ?_)
  have hw : pb_W D A s.heap ([(h, .inr (0, [.null, .null, .null, .null, .int (nI 0), .int (nI 0), .int (nI 0), .null, .int (nI 0)])), (q7, pb_B (k 0) 48 (fun _ => 0))]) H locs := hw
  refine pb_putF (ty := .array .byte) (ws' := [(h, .inr (0, [.null, .null, .ref q7, .null, .int (nI 0), .int (nI 0), .int (nI 0), .null, .int (nI 0)])), (q7, pb_B (k 0) 48 (fun _ => 0))]) C hw i_Bk t_Bk t_Bk_ok n_Bk 0 rfl rfl 2 (by decide) m_97 rfl hin rfl (by decide +kernel) rfl rfl (Nat.le_of_ble_eq_true rfl) rfl d_Bk_init_9 (fun H locs hw => ?_)
  refine lv_aload_n hx hb d_Bk_init_12 rfl (lv_at hl 0 rfl) ?_
  refine lv_bipush (v := nI 64) hx hb d_Bk_init_13 (by decide +kernel) ?_
  refine pb_newb C hA hw (by decide) (by rw [hRc.1]; decide) (by rw [hRc.2]; decide) d_Bk_init_15 (fun q15 H locs hw => ?_)
  have hw : pb_W D A s.heap ([(h, .inr (0, [.null, .null, .ref q7, .null, .int (nI 0), .int (nI 0), .int (nI 0), .null, .int (nI 0)])), (q7, pb_B (k 0) 48 (fun _ => 0)), (q15, pb_B (k 0) 64 (fun _ => 0))]) H locs := hw
  refine pb_putF (ty := .array .byte) (ws' := [(h, .inr (0, [.null, .null, .ref q7, .ref q15, .int (nI 0), .int (nI 0), .int (nI 0), .null, .int (nI 0)])), (q7, pb_B (k 0) 48 (fun _ => 0)), (q15, pb_B (k 0) 64 (fun _ => 0))]) C hw i_Bk t_Bk t_Bk_ok n_Bk 0 rfl rfl 3 (by decide) m_98 rfl hin rfl (by decide +kernel) rfl rfl (Nat.le_of_ble_eq_true rfl) rfl d_Bk_init_17 (fun H locs hw => ?_)
  refine lv_aload_n hx hb d_Bk_init_20 rfl (lv_at hl 0 rfl) ?_
  refine lv_bipush (v := nI 40) hx hb d_Bk_init_21 (by decide +kernel) ?_
  refine pb_newi C hA hw (by decide) (by rw [hRc.1]; decide) (by rw [hRc.2]; decide) d_Bk_init_23 (fun q23 H locs hw => ?_)
  have hw : pb_W D A s.heap ([(h, .inr (0, [.null, .null, .ref q7, .ref q15, .int (nI 0), .int (nI 0), .int (nI 0), .null, .int (nI 0)])), (q7, pb_B (k 0) 48 (fun _ => 0)), (q15, pb_B (k 0) 64 (fun _ => 0)), (q23, pb_I (k 1) 40 (fun _ => 0))]) H locs := hw
  refine pb_putF (ty := .array .int) (ws' := [(h, .inr (0, [.null, .null, .ref q7, .ref q15, .int (nI 0), .int (nI 0), .int (nI 0), .ref q23, .int (nI 0)])), (q7, pb_B (k 0) 48 (fun _ => 0)), (q15, pb_B (k 0) 64 (fun _ => 0)), (q23, pb_I (k 1) 40 (fun _ => 0))]) C hw i_Bk t_Bk t_Bk_ok n_Bk 0 rfl rfl 7 (by decide) m_102 rfl hin rfl (by decide +kernel) rfl rfl (Nat.le_of_ble_eq_true rfl) rfl d_Bk_init_25 (fun H locs hw => ?_)
  refine lv_aload_n hx hb d_Bk_init_28 rfl (lv_at hl 0 rfl) ?_
  refine lv_iconst (v := nI 4) hx hb d_Bk_init_29 (by decide +kernel) ?_
  refine lv_bipush (v := nI 64) hx hb d_Bk_init_30 (by decide +kernel) ?_
  refine lv_iload_n hx hb d_Bk_init_32 rfl (lv_at hl 1 rfl) ?_
  refine va_mmin (rest := [.int (nI 4), .ref h]) hx hb (hml.trans hl.1.symm) hown (hG _ m_20) (hG _ m_21) (hG _ m_2) (hG _ m_22) (Nat.le_trans (by decide) hR1) (Nat.le_trans (Nat.le_of_ble_eq_true rfl) hR2) (by rw [hRc.1]; decide) (by rw [hRc.2]; decide) d_Bk_init_33 ?_
  refine va_mmax (rest := [.ref h]) hx hb (hml.trans hl.1.symm) hown (hG _ m_23) (hG _ m_24) (hG _ m_2) (hG _ m_25) (Nat.le_trans (by decide) hR1) (Nat.le_trans (Nat.le_of_ble_eq_true rfl) hR2) (by rw [hRc.1]; decide) (by rw [hRc.2]; decide) d_Bk_init_36 ?_
  obtain ⟨n, hcl, hn4, hn64, hcn⟩ := pb_clampB x
  refine pb_top hcn ?_
  refine lv_bipush (v := nI 64) hx hb d_Bk_init_39 (by decide +kernel) ?_
  refine pb_multi C hA hw m_26 (by omega) hn64 (by rw [hRc.1]; omega) (by rw [hRc.2]; omega) d_Bk_init_41 (fun qo ra H locs hw => ?_)
  have hw : pb_W D A s.heap ([(h, .inr (0, [.null, .null, .ref q7, .ref q15, .int (nI 0), .int (nI 0), .int (nI 0), .ref q23, .int (nI 0)])), (q7, pb_B (k 0) 48 (fun _ => 0)), (q15, pb_B (k 0) 64 (fun _ => 0)), (q23, pb_I (k 1) 40 (fun _ => 0)), (qo, .inl (k 2, n, .inr (.inr (.inr (.inr (fun j => some (ra j)))))))] ++ pb_rows ra k n (fun _ _ => 0)) H locs := hw
  refine W.widen (k := 68) (n := 4312) (by omega) (by omega) ?_
  refine pb_putF (ty := .array (.array .byte)) (ws' := [(h, .inr (0, [.ref qo, .null, .ref q7, .ref q15, .int (nI 0), .int (nI 0), .int (nI 0), .ref q23, .int (nI 0)])), (q7, pb_B (k 0) 48 (fun _ => 0)), (q15, pb_B (k 0) 64 (fun _ => 0)), (q23, pb_I (k 1) 40 (fun _ => 0)), (qo, .inl (k 2, n, .inr (.inr (.inr (.inr (fun j => some (ra j)))))))] ++ pb_rows ra k n (fun _ _ => 0)) C hw i_Bk t_Bk t_Bk_ok n_Bk 0 rfl rfl 0 (by decide) m_95 rfl hin rfl (by decide +kernel) rfl rfl (Nat.le_of_ble_eq_true rfl) rfl d_Bk_init_45 (fun H locs hw => ?_)
  refine lv_aload_n hx hb d_Bk_init_48 rfl (lv_at hl 0 rfl) ?_
  refine pb_new (ci := 1) (fs := [.null, .null, .null, .null, .int (nI 0)]) (Cc := R_Pn) (T := F_Pn) (N := 5) C hA hw i_Pn t_Pn t_Pn_ok m_28 m_29 m_3 rfl (fun j hj => by rcases (show j = 0 ∨ j = 1 ∨ j = 2 ∨ j = 3 ∨ j = 4 by omega) with rfl | rfl | rfl | rfl | rfl <;> rfl) (by rw [hRc.1]; decide) (by rw [hRc.2]; decide) d_Bk_init_49 (fun qp H locs hw => ?_)
  refine lv_dup hx hb d_Bk_init_52 rfl ?_
  refine lv_aload_n hx hb d_Bk_init_53 rfl (lv_at hl 0 rfl) ?_
  refine pb_get C hw.1 i_Bk 0 rfl rfl 0 (by decide) m_95 rfl d_Bk_init_54 ?_
  refine pb_tC (n := 1) (As := [.ref qo]) (rest := [.ref qp, .ref h]) C hA hw m_31 m_3 m_32 rfl ⟨by decide +kernel, by decide +kernel, by decide +kernel⟩ m_30 (c_Pn_init l D k qp qo _) rfl hl.1 ⟨by decide, by decide⟩ ⟨by rw [hRc.1]; decide, by rw [hRc.2]; decide⟩ rfl (Nat.le_of_ble_eq_true rfl) d_Bk_init_57 (fun up H locs _ hw => ?_)
  obtain ⟨qb, qc, qd⟩ := up
  have hw : pb_W D A s.heap (([(h, .inr (0, [.ref qo, .null, .ref q7, .ref q15, .int (nI 0), .int (nI 0), .int (nI 0), .ref q23, .int (nI 0)])), (q7, pb_B (k 0) 48 (fun _ => 0)), (q15, pb_B (k 0) 64 (fun _ => 0)), (q23, pb_I (k 1) 40 (fun _ => 0)), (qo, .inl (k 2, n, .inr (.inr (.inr (.inr (fun j => some (ra j)))))))] ++ pb_rows ra k n (fun _ _ => 0)) ++ [(qp, .inr (1, [.ref qo, .ref qb, .ref qc, .ref qd, .int (nI 0)])), (qb, pb_I (k 1) 129 (fun _ => 0)), (qc, pb_I (k 1) 129 (fun _ => 0)), (qd, pb_B (k 0) 129 (fun _ => 0))]) H locs := hw
  refine pb_putF (ty := .object "PuzzleBook$Pen") (ws' := ([(h, .inr (0, [.ref qo, .ref qp, .ref q7, .ref q15, .int (nI 0), .int (nI 0), .int (nI 0), .ref q23, .int (nI 0)])), (q7, pb_B (k 0) 48 (fun _ => 0)), (q15, pb_B (k 0) 64 (fun _ => 0)), (q23, pb_I (k 1) 40 (fun _ => 0)), (qo, .inl (k 2, n, .inr (.inr (.inr (.inr (fun j => some (ra j)))))))] ++ pb_rows ra k n (fun _ _ => 0)) ++ [(qp, .inr (1, [.ref qo, .ref qb, .ref qc, .ref qd, .int (nI 0)])), (qb, pb_I (k 1) 129 (fun _ => 0)), (qc, pb_I (k 1) 129 (fun _ => 0)), (qd, pb_B (k 0) 129 (fun _ => 0))]) C hw i_Bk t_Bk t_Bk_ok n_Bk 0 rfl rfl 1 (by decide) m_96 rfl hin rfl (by decide +kernel) rfl rfl (Nat.le_of_ble_eq_true rfl) rfl d_Bk_init_60 (fun H locs hw => ?_)
  have hw := pb_swap (a := [(h, .inr (0, [.ref qo, .ref qp, .ref q7, .ref q15, .int (nI 0), .int (nI 0), .int (nI 0), .ref q23, .int (nI 0)])), (q7, pb_B (k 0) 48 (fun _ => 0)), (q15, pb_B (k 0) 64 (fun _ => 0)), (q23, pb_I (k 1) 40 (fun _ => 0)), (qo, .inl (k 2, n, .inr (.inr (.inr (.inr (fun j => some (ra j)))))))]) (b := pb_rows ra k n (fun _ _ => 0)) hw
  have hw : pb_W D A s.heap (bk_W (pb_ad9 h qp qo q7 q15 q23 qb qc qd) ra k n 0 0 (nI 0) 0 0 (fun _ => 0) (fun _ => 0) (fun _ => 0) (fun _ => 0) (fun _ => 0) (fun _ => 0) (fun _ _ => 0)) H locs := pb_part hw [0, 5, 4, 1, 2, 3, 6, 7, 8] (by decide) rfl
  obtain ⟨a, ha⟩ : ∃ a, a = pb_ad9 h qp qo q7 q15 q23 qb qc qd := ⟨_, rfl⟩
  have ha0 : a 0 = h := by rw [ha]; rfl
  rw [← ha] at hw
  have hl : lv_has ls 3 [(0, .ref (a 0)), (1, .int x)] := by rw [ha0]; exact hl
  clear ha
  have hM0 : ∀ x j, (fun _ _ => 0 : Nat → Nat → Nat) x j < 256 := fun _ _ => Nat.zero_lt_succ 255
  refine W.widen (k := 72) (n := 4704) (by decide) (by decide) ?_
  refine lv_aload_n hx hb d_Bk_init_63 rfl (lv_at hl 0 rfl) ?_
  refine lv_iconst (v := -1) hx hb d_Bk_init_64 (by decide +kernel) ?_
  refine pb_vV (As := [.int (-1)]) (rest := []) C hA hw k_Bk_fillRoot m_53 (c_Bk_fillRoot l D a ra k n 0 0 (nI 0) 0 0 (fun _ => 0) (fun _ => 0) (fun _ => 0) (fun _ => 0) (fun _ => 0) (fun _ => 0) (fun _ _ => 0) (-1) 64 _ (by omega) (fun z hz => by omega) (fun _ => Nat.zero_lt_succ 255) (fun z hz => ⟨fun g => absurd g (pb_ne_m1 (by omega)), fun g => by omega⟩)) rfl hl.1 0 0 rfl rfl rfl ⟨by decide, by decide⟩ ⟨by rw [hRc.1]; decide, by rw [hRc.2]; decide⟩ rfl (Nat.le_of_ble_eq_true rfl) d_Bk_init_65 (fun u65 H locs h65 hw => ?_)
  obtain ⟨h65a, h65b⟩ := h65
  refine lv_iconst (v := nI 0) hx hb d_Bk_init_68 (by decide +kernel) ?_
  refine lv_istore_n (lv' := [(2, .int (nI 0)), (0, .ref (a 0)), (1, .int x)]) hx hb d_Bk_init_69 rfl hl (by decide) rfl (fun ls hl => ?_)
  have loop70 : ∀ (fu : Nat) (i : Nat) (H : Heap) (locs : List Loc) (ls : Array Slot), (i ≤ 64) → (64 + 1 ≤ i + fu) → pb_W D A s.heap (bk_W a ra k n 0 0 (nI 0) 0 0 (fun _ => 0) u65 (fun _ => 0) (fun _ => 0) (fun _ => 0) (fun _ => 0) (pb_rowf (fun _ _ => 0) 1 i u65)) H locs → lv_has ls 3 [(2, .int (nI i)), (0, .ref (a 0)), (1, .int x)] → W p l e R s m args below meth c H locs 72 4704 Q (F0 m 70 ls []) := by
    intro fu
    induction fu with
    | zero =>
      intro i H locs ls hi hn
      exfalso
      omega
    | succ fu ih =>
      intro i H locs ls hi hn hw hl
      refine lv_iload_n hx hb d_Bk_init_70 rfl (lv_at hl 0 rfl) ?_
      refine lv_bipush (v := nI 64) hx hb d_Bk_init_71 (by decide +kernel) ?_
      refine pb_ge (tgt := 96) (by omega) (by omega) hx hb d_Bk_init_73 (by decide) (fun c_1 => ?_) (fun c_1 => ?_)
      · refine lv_aload_n hx hb d_Bk_init_96 rfl (lv_at hl 1 rfl) ?_
        refine bk_g_store C hw.1 d_Bk_init_97 ?_
        refine lv_iconst (v := nI 0) hx hb d_Bk_init_100 (by decide +kernel) ?_
        refine bk_row C hw.1 (by omega) hn64 d_Bk_init_101 ?_
        refine lv_iconst (v := nI 0) hx hb d_Bk_init_102 (by decide +kernel) ?_
        refine lv_iconst (v := nI 1) hx hb d_Bk_init_103 (by decide +kernel) ?_
        refine bk_rst C hw (by omega) (by omega) rfl d_Bk_init_104 (fun H locs hw => ?_)
        rw [show i = 64 by omega, pb_rowf_congr h65a] at hw
        have hw : pb_W D A s.heap (bk_W a ra k n 0 0 (nI 0) 0 0 (fun _ => 0) u65 (fun _ => 0) (fun _ => 0) (fun _ => 0) (fun _ => 0) pb_M0) H locs := hw
        refine lv_aload_n hx hb d_Bk_init_105 rfl (lv_at hl 1 rfl) ?_
        refine pb_vI (As := []) (rest := []) C hA hw k_Bk_reopen m_72 (c_Bk_reopen l D a ra k n 0 0 (nI 0) 0 0 (fun _ => 0) u65 (fun _ => 0) (fun _ => 0) (fun _ => 0) (fun _ => 0) pb_M0 _ hn64 hn4 pb_M0_lt) rfl hl.1 0 0 rfl rfl rfl ⟨by decide, by decide⟩ ⟨by rw [hRc.1]; decide, by rw [hRc.2]; decide⟩ rfl (Nat.le_of_ble_eq_true rfl) d_Bk_init_106 (fun r106 u106 H locs h106 hw => ?_)
        refine lv_pop hx hb d_Bk_init_109 rfl ?_
        obtain ⟨hre, hrf⟩ := h106
        obtain ⟨z, tn2, mn2, en2⟩ := u106
        obtain rfl : z = 1 := pb_re0 hre
        obtain ⟨e1, e2, -⟩ := hrf rfl
        have e1 : tn2 = nI 1 := by rw [← pb_M0_00]; exact e1
        have e2 : mn2 = 0 := by rw [← pb_M0_10, ← pb_M0_00]; exact e2
        subst e1
        subst e2
        exact kr _ _ _ _ (a, ra, n, u65, en2) d_Bk_init_110 hw ⟨ha0, hcl, h65b⟩
      · refine lv_aload_n hx hb d_Bk_init_76 rfl (lv_at hl 1 rfl) ?_
        refine bk_g_store C hw.1 d_Bk_init_77 ?_
        refine lv_iconst (v := nI 1) hx hb d_Bk_init_80 (by decide +kernel) ?_
        refine bk_row C hw.1 (by omega) hn64 d_Bk_init_81 ?_
        refine lv_iload_n hx hb d_Bk_init_82 rfl (lv_at hl 0 rfl) ?_
        refine lv_aload_n hx hb d_Bk_init_83 rfl (lv_at hl 1 rfl) ?_
        refine bk_g_page C hw.1 d_Bk_init_84 ?_
        refine lv_iload_n hx hb d_Bk_init_87 rfl (lv_at hl 0 rfl) ?_
        refine bk_l_page C hw.1 (by omega) d_Bk_init_88 ?_
        refine bk_rst C hw (by omega) (by omega) (pb_i2b _) d_Bk_init_89 (fun H locs hw => ?_)
        refine lv_iinc (v := nI (i + 1)) (lv' := [(2, .int (nI (i + 1))), (0, .ref (a 0)), (1, .int x)]) hx hb d_Bk_init_90 hl (k := 0) rfl (pb_i1 _) (by decide) rfl (fun ls hl => ?_)
        refine lv_goto (tgt := 70) hx hb d_Bk_init_93 (by decide) ?_
        exact ih (i + 1) _ _ _ (by omega) (by omega) (by rw [← pb_rowf_s]; exact hw) (lv_sub hl [0, 1, 2] rfl)
  exact loop70 65 0 _ _ _ (by omega) (by omega) (by rw [pb_rowf_0]; exact hw) (lv_sub hl [0, 1, 2] rfl)
end
section
-- ===== the exception of byteAt: what is kept, the words of the throw, the catch =====
theorem pb_kept {s t : State} {k n : Nat} (h : s.sameButNew t [] k n) : ∀ q : Nat, q < s.heap.size → t.heap[q]? = s.heap[q]? := by
  intro q hq
  obtain ⟨-, -, -, -, -, h6⟩ := h
  obtain ⟨c', h1, h2, h3, h4⟩ := h6 q s.heap[q] (Array.getElem?_eq_getElem hq)
  have e : c'.slots = s.heap[q].slots := Array.ext_getElem? (fun i => h4 i List.not_mem_nil)
  rw [h1, Array.getElem?_eq_getElem hq, h2, e]
/-- U is a later state of s0, whose cells are all as they were -/
def pb_E (s0 U : State) : Prop := s0.WarmedH U.vm ∧ ∀ q : Nat, q < s0.heap.size → U.heap[q]? = s0.heap[q]?
abbrev pb_us : Term := .static "java/lang/Throwable" "UNASSIGNED_STACK" "[Ljava/lang/StackTraceElement;"
abbrev pb_ss : Term := .static "java/lang/Throwable" "SUPPRESSED_SENTINEL" "Ljava/util/List;"
/-- what the start says of the throw -/
def pb_T0 (a0 : Array Value) (s0 : State) : Prop := (∀ w ∈ lw_tbl, w.before a0 s0 = true) ∧ (Cond.isRef pb_us).before a0 s0 = true ∧ (Cond.isRef pb_ss).before a0 s0 = true
def pb_odd : List Cond := [.laysStatic "java/lang/Throwable" "UNASSIGNED_STACK" "[Ljava/lang/StackTraceElement;", .laysStatic "java/lang/Throwable" "SUPPRESSED_SENTINEL" "Ljava/util/List;", .isRef pb_us, .isRef pb_ss]
theorem pb_armG : (Bundle.messageArmAtoms Bundle.idxN Bundle.idxUp).all (fun a => decide (a ∈ pb_odd) || (decide (a ∈ lw_tbl) && (goodWord a || (a.onTables && a.keepsFace)))) = true := by decide +kernel
theorem pb_lS {a0 a1 : Array Value} {s0 U : State} {C n d : String} (hE : pb_E s0 U) (h : (Cond.laysStatic C n d).before a0 s0 = true) : (Cond.laysStatic C n d).before a1 U = true := by
  have h1 : (Cond.laysStatic C n d).before a0 (s0.setVm U.vm) = true := Cond.holds_shifted (State.Shifted.of_warmed hE.1) _ [] rfl h
  obtain ⟨c, k, i, f, a, cell, hc, hi, hst, ha, hcell, hs, hcls, hlt, hty⟩ := Cond.laysStatic_spec h1
  have hc' : U.vm.findClass C = some c := hc
  have hi' : U.fieldFound? C n d = some (c, k, i, f) := hi
  have hq : s0.heap[a]? = some cell := hcell
  have hcell' : U.heap[a]? = some cell := by rw [hE.2 a (Array.getElem?_eq_some_iff.mp hq).1]; exact hq
  simp [Cond.before, Cond.holds, Cond.value, hc', hi', ha, hcell', hst, hs, hcls, hlt, hty]
theorem pb_rS {a0 a1 : Array Value} {s0 U : State} {C n d : String} (hE : pb_E s0 U) (hl : (Cond.laysStatic C n d).before a0 s0 = true) (hini : (Cond.initialized C).before a0 s0 = true) (h : (Cond.isRef (.static C n d)).before a0 s0 = true) : (Cond.isRef (.static C n d)).before a1 U = true := by
  have h0 : va_Zq C n d (fun _ => False) s0 s0.heap := va_Zqof hl hini h (fun _ _ z => z)
  have h1 : va_Zq C n d (fun _ => False) U U.heap := (va_Zq.moved hE.1.alike h0).kept (fun a g1 _ => hE.2 a g1)
  rcases h1 with ⟨cf, kf, fi, f, a, cell, g1, g2, g3, g4, g5, g6, g7, -⟩ | ⟨t, cf, kf, fi, f, a, cell, g1, g2, g3, g4, g5, g6, g7, -⟩ <;>
    simp [Cond.before, Cond.holds, Cond.value, Term.eval, State.fieldNamed?, g1, g2, g4, g5, g6, g7]
theorem pb_arm {a0 a1 : Array Value} {s0 U : State} (h0 : pb_T0 a0 s0) (hE : pb_E s0 U) : ∀ a ∈ Bundle.messageArmAtoms Bundle.idxN Bundle.idxUp, a.before a1 U = true := by
  intro a ha
  have h1 := List.all_eq_true.mp pb_armG a ha
  simp only [Bool.or_eq_true, Bool.and_eq_true, decide_eq_true_eq] at h1
  have l1 := h0.1 (.laysStatic "java/lang/Throwable" "UNASSIGNED_STACK" "[Ljava/lang/StackTraceElement;") (by decide +kernel)
  have l2 := h0.1 (.laysStatic "java/lang/Throwable" "SUPPRESSED_SENTINEL" "Ljava/util/List;") (by decide +kernel)
  have l3 := h0.1 (.initialized "java/lang/Throwable") (by decide +kernel)
  rcases h1 with h1 | ⟨h1, h2 | ⟨h2, h3⟩⟩
  · unfold pb_odd at h1
    rcases List.mem_cons.mp h1 with rfl | h1
    · exact pb_lS hE l1
    rcases List.mem_cons.mp h1 with rfl | h1
    · exact pb_lS hE l2
    rcases List.mem_cons.mp h1 with rfl | h1
    · exact pb_rS hE l1 l3 h0.2.1
    rcases List.mem_cons.mp h1 with rfl | h1
    · exact pb_rS hE l2 l3 h0.2.2
    · cases h1
  · exact word_at hE.1 (good_of_word h2) (h0.1 a h1)
  · have h4 : a.before a0 (s0.setVm U.vm) = true := Cond.before_shiftedFace (State.Shifted.of_warmed hE.1) a h3 (h0.1 a h1)
    rw [Cond.onTables_vm (A' := a1) (U' := U) U.vm a h2] at h4
    exact h4
/-- the search for a handler: one entry, of a class that the pool names (resolved by now or not) -/
theorem pb_find {e : Env} {s : State} {f : JFrame} {a : Addr} {mt : Method} {cd : Code} {x : ExceptionTableEntry} {cT : ClassId} {cell : Cell} {vm1 : Vm} (hm : s.vm.method? f.method = some mt) (hc : mt.code = some cd) (hx : cd.exceptionTable.toList = [x]) (hcv : covers x f.pc = true) (h0 : x.catchType ≠ 0)
    (hg : (resolveClass f.method.cls x.catchType).Gives e.toSetting s.vm (.ok cT) vm1) (hal : s.vm.Alike vm1) (hcell : s.heap[a]? = some cell) (hobj : cell.vm.isStatics = false) (hT : ∃ k, s.vm.classes[cT]? = some k) (hfit : s.vm.assignable cell.cls cT = true) (Q : Handler → Pre) (E : CtlPost) (d : Bool) (acts : List Action) :
    wp (findHandler f a) Q E e d acts s ↔ Q (.found x.handlerPc) d acts (s.setVm vm1) := by
  rw [Jvm.W.findHandler_eq hm hc, hx]
  obtain ⟨g1, g2⟩ := hg.op (op := VmOp.resolveClass f.method.cls x.catchType) rfl
  obtain ⟨k2, hk2⟩ := hT
  obtain ⟨k1, hk1⟩ := Vm.classAt_of_assignable hfit ⟨k2, hk2⟩
  obtain ⟨k1', hk1', -⟩ := hal.2.2 _ _ hk1
  obtain ⟨k2', hk2', -⟩ := hal.2.2 _ _ hk2
  have hfit' : vm1.assignable cell.cls cT = true := by rw [hal.assignable]; exact hfit
  have hobj' : ∀ k, cell.vm ≠ .statics k := VmData.ne_statics_of hobj
  have hland := VmOp.lands_eq (op := VmOp.resolveClass f.method.cls x.catchType) (s := s) g2 hal.size_le
  simp only [covers] at hcv
  simp [findHandler.go, hcv, hland, h0, g1, g2, hcell, hobj', hk1', hk2', hfit', VmOp.dirties, VmOp.acts]
/-- how byteAt ends out of range: it throws, having made three cells -/
def pb_Qt (_ : Array Value) (st : State) (o : Outcome) (t : State) : Prop := ∃ (x : Addr) (n : Nat) (cell : Cell), o = .threw x ∧ st.WarmedH t.vm ∧ n ≤ 222 ∧ st.sameButNew ({ t with vm := st.vm } : State) [] 3 n ∧ t.heap[x]? = some cell ∧ cell.vm.isStatics = false ∧ st.vm.findClass "java/lang/ArrayIndexOutOfBoundsException" = some cell.cls ∧ st.vm.assignable cell.cls cell.cls = true
abbrev pb_rt : Room := { frames := 8, cells := 3, slots := 222, locals := 10300 }
section PBT
variable {p : Program} {l : Launch} {e : Env} {R : Room} {s : State} {m : MethodId} {args : Array Value} {below : List Frame} {meth : Method} {c : Code} {Q : State → Prop}
variable {cc : ByteArray} {pc : Nat} {ls : Array Slot} {rest st : List Value}
theorem pb_idx {text : String} (hmod : (text == notModelled) = false) (hb : (stringBytes (stringToUtf16 text)).size ≤ 212) (hl : l.stackTraces = false) (hx : p.tables.exec = Jvm.exec) (hml : c.maxLocals = ls.size) (hlk : meth.locks = false) (hR : R = pb_rt) (harm : ∀ a ∈ Bundle.messageArmAtoms Bundle.idxN Bundle.idxUp, a.before args s = true) (hcov : ∀ x ∈ c.exceptionTable.toList, covers x pc = false) (hrest : (rest.map fun v => v.category).sum ≤ 8)
    (ho : ∀ T, T.heap = s.heap → Stand p l e R s m args below meth c T [] 0 0 → ∀ target, Steps p.tables e below ((T.setTop (F0 m pc ls rest)).pushFrame (.throwNew "java/lang/ArrayIndexOutOfBoundsException" (some text) none)) target → Steps p.tables e below (T.setTop (F0 m pc ls st)) target) :
    W p l e R s m args below meth c s.heap [] 0 0 (fun t => ∃ o, t.status = .running ∧ Ended t below o ∧ pb_Qt args s o t) (F0 m pc ls st) := by
  intro T hT X
  have htr : e.platform.stackTraces = false := by rw [X.admits.platform]; exact hl
  subst hR
  obtain ⟨U, hsteps, hrun, hend, hW, ⟨k, hk, hsame⟩, cb, cs, ce, -, -, hce, -, -, KE⟩ := X.messageArmCells hx htr (cls := "java/lang/ArrayIndexOutOfBoundsException") (names := Bundle.idxUp) (text := text) (by decide +kernel) (by decide +kernel) (by decide) (by decide)
    harm (fun x hx => by cases hx) hmod (by rw [X.admits.platform]; show ¬ _ > 2147483645; omega) (by rw [X.admits.platform]; show ¬ _ * 1 > 536870912; omega)
    (g := F0 m pc ls rest) rfl (by rw [hml]) rfl rfl hcov (by decide) (by show 2 * 0 + (rest.map fun v => v.category).sum + 10240 ≤ 10300; omega) (by decide) (by decide) (by show 0 + (_ + 4 + 6) ≤ 222; omega) hlk
  exact ⟨U, ho T hT X U hsteps, _, hrun, hend, _, k, ce, rfl, hW, by omega, hsame, hce, by rw [KE.vm]; rfl, KE.cls, KE.self⟩
end PBT
set_option maxHeartbeats 4000000 in
theorem c_Bk_throw (l : Launch) (hlt : l.stackTraces = false) (D : va_G) (a : Nat → Nat) (ra : Nat → Nat) (k : Nat → ClassId) (n : Nat) (fs : Nat) (op : Nat) (tn : Int32) (mn : Nat) (sz : Nat) (fd : Nat → Nat) (pg : Nat → Nat) (en : Nat → Nat) (bl : Nat → Nat) (pl : Nat → Nat) (wa : Nat → Nat) (M : Nat → Nat → Nat) (x y : Int32) (hn64 : n ≤ 64) (hno : pb_nob n x y) (a0 : Array Value) (s0 : State) (h0 : pb_T0 a0 s0) :
    MetFree l y_Bk_byteAt (headSpec (pb_ws y_Bk_byteAt b_Bk_byteAt 3 (some .int)) pb_rt) (fun av U => pb_Pr D k [.ref (a 0), .int x, .int y] (bk_W a ra k n fs op tn mn sz fd pg en bl pl wa M) av U ∧ pb_E s0 U) (fun _ _ _ _ _ => True) pb_Qt := by
  refine MetFree.of_bodyS (code := b_Bk_byteAt) (maxLocals := 3) (ret := some .int) (by decide) ?_ ?_
  · intro args s m h hn
    obtain ⟨meth, c, h1, h2, h3, h4, h5, h6, -, -⟩ := Cond.code_spec hn (atoms_spec (ws := pb_ws y_Bk_byteAt b_Bk_byteAt 3 (some .int)) h _ List.mem_cons_self)
    exact ⟨meth, c, h1, h2, h3, h4, h5, h6⟩
  · intro p e s m args below meth c s₁ B hml hPE _
    obtain ⟨⟨rfl, hP, hK⟩, hE⟩ := hPE
    have hts := atoms_spec (ws := pb_ws y_Bk_byteAt b_Bk_byteAt 3 (some .int)) B.pre
    have hown : s.vm.findClass R_Bk = some m.cls := findClass_of_methodNamed B.named
    have C : pb_C D k R_Bk b_Bk_byteAt 3 8 10300 p pb_rt s m _ c := ⟨B.exec, B.bytes, hml, hown, fun w h => hts w (List.mem_cons_of_mem _ h), hK, Nat.le_refl _, Nat.le_refl _⟩
    have hx := B.exec
    have hb := B.bytes
    have harm := pb_arm (a1 := ([.ref (a 0), .int x, .int y] : List Value).toArray) h0 hE
    have hcov : ∀ pc, ∀ z ∈ c.exceptionTable.toList, covers z pc = false := covers_of_empty (B.noHandlers (hts _ List.mem_cons_self))
    have Kw : W p l e pb_rt s m ([.ref (a 0), .int x, .int y] : List Value).toArray below meth c s.heap [] 0 0 (fun t => ∃ o, t.status = .running ∧ Ended t below o ∧ pb_Qt ([.ref (a 0), .int x, .int y] : List Value).toArray s o t) (entryFrame m ([.ref (a 0), .int x, .int y] : List Value).toArray 3) := by
      rw [lg_entry_eq]
      have hl := lv_entry (n := 3) [.ref (a 0), .int x, .int y] (Nat.le_of_ble_eq_true rfl)
      generalize (lg_sl [.ref (a 0), .int x, .int y] ++ List.replicate (3 - (lg_sl [.ref (a 0), .int x, .int y]).length) Slot.unset).toArray = ls at hl ⊢
      have hl : lv_has ls 3 [(0, .ref (a 0)), (1, .int x), (2, .int y)] := hl
      refine lv_aload_n hx hb d_Bk_byteAt_0 rfl (lv_at hl 0 rfl) ?_
      refine bk_g_store C hP d_Bk_byteAt_1 ?_
      refine lv_iload_n hx hb d_Bk_byteAt_4 rfl (lv_at hl 1 rfl) ?_
      by_cases h1 : x < 0 ∨ nI n ≤ x
      · have hsz : (vp_cell (k 2) (n, .inr (.inr (.inr (.inr (fun j => some (ra j))))))).slots.size = n := by rw [vp_cell_q, arrV_size]
        refine pb_idx (rest := []) (index_text_modelled x n) (index_text_bytes x (n := n) (by omega)) hlt hx (hml.trans hl.1.symm) B.notSynchronized rfl harm (hcov _) (by decide) ?_
        intro T hT X target ht
        refine X.aaloadOut hx (a := a 2) (cell := vp_cell (k 2) (n, .inr (.inr (.inr (.inr (fun j => some (ra j))))))) (ty := .array .byte) (j := x) (by rw [hT]; exact hP 2 _ rfl) (by rw [vp_cell_q]; exact (hK.1.2 2 _ rfl).1 n _) ?_ (g := F0 m 5 ls [.int x, .ref (a 2)]) rfl (rest := []) rfl (by rw [hb]; exact d_Bk_byteAt_5) target ?_
        · rw [hsz]
          exact (out_iff (by omega)).mpr h1
        · rw [hsz]
          exact ht
      · have h2 : y < 0 ∨ nI 64 ≤ y := by
          rcases hno with q | q | q | q
          · exact absurd (Or.inl q) h1
          · exact absurd (Or.inr q) h1
          · exact Or.inl q
          · exact Or.inr q
        obtain ⟨b, hbn, rfl⟩ := pb_num_lt (by omega) (fun q => h1 (Or.inl q)) (Int32.not_le.mp (fun q => h1 (Or.inr q)))
        refine bk_row C hP hbn hn64 d_Bk_byteAt_5 ?_
        refine lv_iload_n hx hb d_Bk_byteAt_6 rfl (lv_at hl 2 rfl) ?_
        have hrow := hP (9 + b) _ (pb_rows_get (X := bk_X a ra k n fs op tn mn sz fd pg en bl pl wa) hbn)
        have hsz : (vp_cell (k 0) (64, .inl (fun j => sb_b (M b j)))).slots.size = 64 := by rw [vp_cell_i, arrV_size]
        refine pb_idx (rest := []) (index_text_modelled y 64) (index_text_bytes y (n := 64) (by decide)) hlt hx (hml.trans hl.1.symm) B.notSynchronized rfl harm (hcov _) (by decide) ?_
        intro T hT X target ht
        refine X.baloadOut hx (a := ra b) (cell := vp_cell (k 0) (64, .inl (fun j => sb_b (M b j)))) (ty := .byte) (j := y) (by rw [hT]; exact hrow) (by rw [vp_cell_i]; exact (hK.1.2 0 _ rfl).1 64 _) ?_ (g := F0 m 7 ls [.int y, .ref (ra b)]) rfl (rest := []) rfl (by rw [hb]; exact d_Bk_byteAt_7) target ?_
        · rw [hsz]
          exact (out_iff (by decide)).mpr h2
        · rw [hsz]
          exact ht
    obtain ⟨t, a1, o, b1, b2, b3⟩ := Kw s₁ (by rw [B.state]; rfl) (Stand.of_body B)
    exact ⟨t, o, a1, b1, b2, b3⟩
end
section
-- ===== a call that throws and is caught; byteAt of the law =====
theorem pb_stepc {e : Env} {s : State} {a : Addr} {f : JFrame} {r : List Frame} {pc : Nat} {vm1 : Vm} (hf : ∀ (Q : Handler → Pre) (E : CtlPost) (d : Bool) (acts : List Action), wp (findHandler f a) Q E e d acts s ↔ Q (.found pc) d acts (s.setVm vm1)) :
    (stepThrowing e s a (.java f :: r)).1 = (s.setVm vm1).setFrames (.java { f with pc := pc, stack := [.ref a] } :: r) := by
  simp only [stepThrowing, searchFrame, vmDo]
  generalize hr : Sem.go _ e false [] s = res
  obtain ⟨as, rfl, ha⟩ := Sem.eq_ok_of hr (a := Handler.found pc) (s' := s.setVm vm1) (acts' := []) (by simp [hf _ _ _ _])
  rfl
theorem pb_goc {tb : Tables} {e : Env} {s target : State} {g : JFrame} {c : Code} {below : List Frame} {a : Addr} (h : At s g.method c below) {pc : Nat} {vm1 : Vm} (hf : ∀ (Q : Handler → Pre) (E : CtlPost) (d : Bool) (acts : List Action), wp (findHandler g a) Q E e d acts ((s.setTop g).pushFrame (.throwing a)) ↔ Q (.found pc) d acts (((s.setTop g).pushFrame (.throwing a)).setVm vm1))
    (hrest : Steps tb e below ((s.setVm vm1).setTop { g with pc := pc, stack := [.ref a] }) target) : Steps tb e below ((s.setTop g).pushFrame (.throwing a)) target := by
  obtain ⟨hgo, hw⟩ := h.throwing a
  refine Steps.head hgo hw ?_
  rw [stepThread_throwing (frames_entered h.top _), pb_stepc hf]
  obtain ⟨g₀, hg⟩ := Option.isSome_iff_exists.mp h.top
  obtain ⟨r, hr⟩ := State.topJava?_eq_some.mp hg
  have hr1 : (s.setVm vm1).frames = .java g₀ :: r := hr
  rw [State.setTop_of_frames _ hr1] at hrest
  have e1 : ((s.setTop g).pushFrame (.throwing a)).setVm vm1 = (s.setVm vm1).setFrames (.throwing a :: .java g :: r) := by
    rw [State.pushFrame, State.setTop_of_frames _ hr, State.setFrames_setFrames]
    obtain ⟨th, hth, -⟩ := State.frames_cons hr
    rw [State.frames_setFrames _ (Array.getElem?_eq_some_iff.mp hth).1]
    rfl
  rw [e1, State.setFrames_setFrames, hr]
  exact hrest
section PBU
variable {p : Program} {l : Launch} {e : Env} {R : Room} {s : State} {m : MethodId} {args : Array Value} {below : List Frame} {meth : Method} {c : Code} {H : Heap} {locs : List Loc} {cells slots : Nat} {Q : State → Prop}
variable {cc : ByteArray} {pc : Nat} {ls : Array Slot} {rest : List Value} {D : va_G} {k : Nat → ClassId} {own : String} {nL fr lo : Nat} {o : Nat}
/-- a virtual call that throws, caught by the method's one handler -/
theorem pb_thr {Pc : Array Value → State → Prop} {Cc : String} {y : MethodName} {b : ByteArray} {nL' n idx : Nat} {ret : Option FieldType} {As st : List Value} {x : ExceptionTableEntry} {rm : Room} (C : pb_C D k own cc nL fr lo p R s m args c) (cal : pb_cV Cc y b nL' n ret) (hlk : Cond.methodLink own idx y ∈ pb_G)
    (hM : MetFree l y (headSpec (pb_ws y b nL' ret) rm) Pc (fun _ _ _ _ _ => True) pb_Qt) (hbl : FrameBlind Pc) (hPc : ∀ U, U.heap = H → s.WarmedH U.vm → Pc (Value.ref o :: As).toArray U) (hn : As.length = n) (hls : ls.size = nL) {cellB : Cell} (hcB : H[o]? = some cellB) (hoB : cellB.vm.isStatics = false) (hclB : s.vm.findClass Cc = some cellB.cls)
    (hct : c.exceptionTable.toList = [x]) (hcv : covers x pc = true) (h0 : x.catchType ≠ 0) (hxl : Cond.classLink own x.catchType "java/lang/ArrayIndexOutOfBoundsException" ∈ pb_G)
    (hd : rm.frames + 1 ≤ fr ∧ 8 + (nL' + 11) + rm.locals ≤ lo) (hrc : rm.cells = 3 ∧ rm.slots = 222) (hf : cells + 3 ≤ R.cells ∧ slots + 222 ≤ R.slots) (hst : st = As.reverse ++ .ref o :: rest) (hrest : (rest.map fun v => v.category).sum ≤ 8) (hdg : decode cc pc = .ok (.invokevirtual idx, 3))
    (kk : ∀ (H1 : Heap) (q : Nat), H.size ≤ H1.size → (∀ i : Nat, i < H.size → H1[i]? = H[i]?) → W p l e R s m args below meth c H1 locs (cells + 3) (slots + 222) Q (F0 m x.handlerPc ls [.ref q])) : W p l e R s m args below meth c H locs cells slots Q (F0 m pc ls st) := by
  obtain ⟨hx, hb, hml, hown, hG, hkn, hR1, hR2⟩ := C
  obtain ⟨hc1, hc2, hc3, hc4, hc5, hc6, hc7, hc8⟩ := cal
  subst hst
  subst hc5
  intro T hT X
  have hpl : e.platform.magicAccessors = ({} : Platform).magicAccessors := by rw [X.admits.platform]
  obtain ⟨mk, methM, hnamed, hmethM, hstM, habM⟩ := Cond.instanceMethod_spec (hG _ hc1)
  obtain ⟨methM', cM, hmethM', hcM, -, hlM, -, -, -, hsigM⟩ := Cond.code_spec hnamed (hG _ hc4)
  cases hmethM.symm.trans hmethM'
  obtain ⟨c2, r2, m2, q1, q2, q3, q4, kP, hkP, hkPi⟩ := Cond.selects_spec (hG _ hc2)
  cases hclB.symm.trans q1
  cases (State.methodFound?_of_named hnamed ⟨hc6, hc7⟩).symm.trans q2
  cases hnamed.symm.trans q3
  have hselP : selectMethod e.platform s.vm cellB.cls mk = .method mk := by rw [Launch.admits_selectMethod X.admits]; exact q4
  have hlen : ∀ sig, parseMethodDescriptor y.desc = some sig → As.length = sig.parameters.length := fun sig h => by
    rw [h] at hc8
    exact hn.trans (Option.some.inj hc8).symm
  obtain ⟨vm₁, X₁, hstep₁⟩ := X.invokevirtual hx hown (hG _ hlk) hnamed hmethM hstM hkP hkPi ⟨hc6, hc7⟩ (a := o) (cell := cellB) (by rw [hT]; exact hcB)
    (fun z h => by rw [h] at hoB; cases hoB) hselP hmethM habM hkP hkPi (g := F0 m pc ls (As.reverse ++ .ref o :: rest)) rfl (argsL := As) (rest := rest) (hlen _ hsigM) rfl (by rw [hb]; exact hdg)
  obtain ⟨kY, hkY, -⟩ := className_of_methodNamed (X₁.named hnamed)
  have hini : (Cond.initialized y.cls).before args (T.setVm vm₁) = true := word_at (s := s) X₁.warmed (Or.inl rfl) (hG _ hc3)
  have hinitY : kY.init = .initialized := Cond.initialized_spec (findClass_of_methodNamed (X₁.named hnamed)) hkY hini
  have h : At (T.setVm vm₁) m c below := X₁.here
  have hmY : (T.setVm vm₁).vm.method? mk = some methM := by rw [X₁.warmed.alike.method?]; exact hmethM
  have happ : (headSpec (pb_ws y b nL' ret) rm).appliesLoose y e.platform ((T.setVm vm₁).calling (F0 m pc ls rest) mk (Value.ref o :: As).toArray) = true :=
    Spec.appliesLoose_calling (g := F0 m pc ls rest) h (by rw [hb]; exact hdg) (X₁.named hnamed) hkY hinitY
      (X₁.room_calling (g := F0 m pc ls rest) (R' := rm) (by show ls.size = _; rw [hml]; exact hls) hmY hcM (Nat.le_trans hd.1 hR1) (by rw [hlM]; show 2 * 0 + (rest.map fun v => v.category).sum + _ + _ ≤ _; omega) (by rw [hrc.1]; exact hf.1) (by rw [hrc.2]; exact hf.2))
      (atoms_intro fun w hw => word_at X₁.warmed (pb_goodws hc4 w hw).2 (hG _ (pb_goodws hc4 w hw).1))
  have hfr : ((T.setVm vm₁).setTop (F0 m pc ls rest)).frames = [.java (F0 m pc ls rest)] ++ below := by rw [State.frames_setTop' _ h.top, X₁.tail]; rfl
  obtain ⟨oc, s₂, hsteps, -, hend, hq⟩ := Steps.callFree hM p X.admits X.cas X.clock (acts := []) hfr happ (hbl _ _ _ _ (hPc (T.setVm vm₁) hT X₁.warmed)) trivial
  obtain ⟨xA, n3, cellX, rfl, hW2, hn3, hsame, hcX, hsX, hclX, hasX⟩ := hq
  rw [hfr] at hend
  obtain ⟨T2, X2, hW3, hsame2, rfl⟩ := X₁.outOfThrown (g := F0 m pc ls rest) rfl hend hW2 hsame
  rw [List.append_nil] at X2
  obtain ⟨cT, hcT, hcl⟩ := Cond.classLink_spec hown (hG _ hxl) e.platform hpl
  obtain ⟨hg1, hw1, -⟩ := State.classEntry (e := e) X2.warmed hcl
  have X3 := X2.noted hw1
  have hkeep : ∀ i : Nat, i < H.size → T2.heap[i]? = H[i]? := fun i hi => by
    have := pb_kept hsame2 i (by rw [show (T.setVm vm₁).heap = T.heap from rfl, hT]; exact hi)
    rw [show (T.setVm vm₁).heap = T.heap from rfl, hT] at this
    exact this
  have hgrow : H.size ≤ T2.heap.size := by
    have := hsame2.2.1
    rw [show (T.setVm vm₁).heap = T.heap from rfl, hT] at this
    exact this
  have hcX2 : T2.heap[xA]? = some cellX := by
    have e5 := Stand.throwing_heap T2 (F0 m pc ls rest) xA
    rw [e5] at hcX
    exact hcX
  have hclX2 : s.vm.findClass "java/lang/ArrayIndexOutOfBoundsException" = some cellX.cls := by
    have e5 : (T.setVm vm₁).vm.findClass "java/lang/ArrayIndexOutOfBoundsException" = some cellX.cls := hclX
    rw [X₁.warmed.alike.findClass] at e5
    exact e5
  cases hcT.symm.trans hclX2
  have hasX2 : T2.vm.assignable cellX.cls cellX.cls = true := by
    have e5 : (T.setVm vm₁).vm.assignable cellX.cls cellX.cls = true := hasX
    rw [X₁.warmed.alike.assignable] at e5
    rw [X2.warmed.alike.assignable]
    exact e5
  have hkX : ∃ kx, T2.vm.classes[cellX.cls]? = some kx := by
    obtain ⟨kx, hkx⟩ := Vm.classAt_of_findClass hclX2
    obtain ⟨k', hk', -⟩ := X2.warmed.alike.2.2 _ _ hkx
    exact ⟨k', hk'⟩
  have hal1 : T2.vm.Alike (T2.vm.noted m.cls x.catchType (.cls cellX.cls)) := X2.warmed.alike.symm.trans hw1.alike
  obtain ⟨t, a1, b1⟩ := W.widen (k := cells + 3) (n := slots + 222) (by omega) (by omega) (kk T2.heap xA hgrow hkeep) (T2.setVm (T2.vm.noted m.cls x.catchType (.cls cellX.cls))) rfl X3
  refine ⟨t, hstep₁ t (fun acts => ?_), b1⟩
  rw [doInvoke_state]
  refine hsteps.trans ?_
  exact pb_goc (g := F0 m pc ls rest) (vm1 := T2.vm.noted m.cls x.catchType (.cls cellX.cls)) X2.here (pc := x.handlerPc) (fun Q E d acts => pb_find (s := (T2.setTop (F0 m pc ls rest)).pushFrame (.throwing xA)) (by rw [Stand.throwing_vm]; exact X2.method') X2.code hct hcv h0 (cT := cellX.cls) (by rw [Stand.throwing_vm]; exact hg1) (by rw [Stand.throwing_vm]; exact hal1) (by rw [Stand.throwing_heap]; exact hcX2) hsX (by rw [Stand.throwing_vm]; exact hkX) (by rw [Stand.throwing_vm]; exact hasX2) Q E d acts) a1
end PBU
end
section
-- ===== byteAt in range (by gen/m11.py) =====
set_option maxHeartbeats 4000000 in
set_option maxRecDepth 100000 in
theorem c_Bk_byteAt (l : Launch) (D : va_G) (a : Nat → Nat) (ra : Nat → Nat) (k : Nat → ClassId) (n : Nat) (fs : Nat) (op : Nat) (tn : Int32) (mn : Nat) (sz : Nat) (fd : Nat → Nat) (pg : Nat → Nat) (en : Nat → Nat) (bl : Nat → Nat) (pl : Nat → Nat) (wa : Nat → Nat) (M : Nat → Nat → Nat) (b i : Nat) (hn64 : n ≤ 64) (hM : ∀ x j, M x j < 256) (hbn : b < n) (hi64 : i < 64) : Met l y_Bk_byteAt (pb_ws y_Bk_byteAt b_Bk_byteAt 3 (some .int)) (pb_rm 0 0 0) (pb_Pr D k [.ref (a 0), .int (nI b), .int (nI i)] (bk_W a ra k n fs op tn mn sz fd pg en bl pl wa M)) (vp_Si (fun r : Int32 => r = nI (M b i))) 0 0 (fun _ => False) := by
  refine pb_mkR R_Bk rfl (by decide) (Nat.le_of_ble_eq_true rfl) ?_
  intro p e R s m args below meth c Q ls C hP hl kr
  obtain ⟨hx, hb, hml, hown, hG, hkn, hR1, hR2⟩ := id C
  have hl : lv_has ls 3 [(0, .ref (a 0)), (1, .int (nI b)), (2, .int (nI i))] := hl
  refine lv_aload_n hx hb d_Bk_byteAt_0 rfl (lv_at hl 0 rfl) ?_
  refine bk_g_store C hP d_Bk_byteAt_1 ?_
  refine lv_iload_n hx hb d_Bk_byteAt_4 rfl (lv_at hl 1 rfl) ?_
  refine bk_row C hP (by omega) hn64 d_Bk_byteAt_5 ?_
  refine lv_iload_n hx hb d_Bk_byteAt_6 rfl (lv_at hl 2 rfl) ?_
  refine bk_rld C hP (by omega) (by omega) d_Bk_byteAt_7 ?_
  refine lv_sipush (v := nI 255) hx hb d_Bk_byteAt_8 (by decide +kernel) ?_
  refine pb_and (hM _ _) hx hb d_Bk_byteAt_11 ?_
  exact kr _ _ _ d_Bk_byteAt_12 rfl rfl
end
section
-- ===== the law's own calls: byteAt (with its handler), cell =====
abbrev pb_J (cA : ClassId) (v : Nat → Int64) : va_E := .inl (cA, 1, .inr (.inl v))
abbrev pb_hh : List (Nat × Nat × Nat × Nat) := [(0, 10, 13, 13)]
abbrev pb_wsJ : List Cond := .codeWith y_Lw_byteAt b_Lw_byteAt 5 (some .int) pb_hh :: pb_G
abbrev pb_rl : Room := { frames := 9, cells := 3, slots := 222, locals := 10400 }
theorem m_cw : (.codeWith y_Lw_byteAt b_Lw_byteAt 5 (some .int) pb_hh : Cond) ∈ pb_G := pb_Gm (List.mem_of_getElem? (i := 226) rfl) rfl
theorem m_cl13 : (.classLink "PuzzleBookLaw" 13 "java/lang/ArrayIndexOutOfBoundsException" : Cond) ∈ pb_G := pb_Gm (by decide +kernel) rfl
theorem pb_bcase {n : Nat} (hn : n ≤ 64) (x y : Int32) : (∃ b i, pb_isb n x y b i) ∨ pb_nob n x y := by
  by_cases h1 : x < 0
  · exact Or.inr (Or.inl h1)
  by_cases h2 : nI n ≤ x
  · exact Or.inr (Or.inr (Or.inl h2))
  by_cases h3 : y < 0
  · exact Or.inr (Or.inr (Or.inr (Or.inl h3)))
  by_cases h4 : nI 64 ≤ y
  · exact Or.inr (Or.inr (Or.inr (Or.inr h4)))
  obtain ⟨b, hb, rfl⟩ := pb_num_lt (by omega) h1 (Int32.not_le.mp h2)
  obtain ⟨i, hi, rfl⟩ := pb_num_lt (by decide) h3 (Int32.not_le.mp h4)
  exact Or.inl ⟨b, i, hb, hi, rfl, rfl⟩
def pb_byl (n : Nat) (M : Nat → Nat → Nat) (x y : Int32) (r : Int32) (u : Nat → Int64) : Prop := (∃ b i, pb_isb n x y b i ∧ r = nI 0 ∧ u 0 = (nI (M b i)).toInt64) ∨ (pb_nob n x y ∧ r = nI 1)
theorem pb_W_kept {D : va_G} {A : Nat → Prop} {H0 H H1 : Heap} {ws : va_W} {locs : List Loc} (hw : pb_W D A H0 ws H locs) (h1 : H.size ≤ H1.size) (h2 : ∀ i : Nat, i < H.size → H1[i]? = H[i]?) : pb_W D A H0 ws H1 locs := by
  refine ⟨?_, hw.2.1, Nat.le_trans hw.2.2.1 h1, fun q g1 g2 => ?_, hw.2.2.2.2⟩
  · intro i q hq
    have hlt : q.1 < H.size := (hw.1 i q hq).lt
    exact (hw.1 i q hq).kept (h2 _ hlt)
  · rw [h2 q (Nat.lt_of_lt_of_le g1 hw.2.2.1)]
    exact hw.2.2.2.1 q g1 g2
set_option maxHeartbeats 4000000 in
theorem c_Lw_byteAt (l : Launch) (hlt : l.stackTraces = false) (D : va_G) (a : Nat → Nat) (ra : Nat → Nat) (k : Nat → ClassId) (n : Nat) (fs : Nat) (op : Nat) (tn : Int32) (mn : Nat) (sz : Nat) (fd : Nat → Nat) (pg : Nat → Nat) (en : Nat → Nat) (bl : Nat → Nat) (pl : Nat → Nat) (wa : Nat → Nat) (M : Nat → Nat → Nat) (x y : Int32) (ot : Nat) (v : Nat → Int64) (sz0 : Nat) (hn64 : n ≤ 64) (hM : ∀ x j, M x j < 256) (a0 : Array Value) (s0 : State) (h0 : pb_T0 a0 s0) :
    Met l y_Lw_byteAt pb_wsJ pb_rl (fun av U => pb_P D k [.ref (a 0), .int x, .int y, .ref ot] ((ot, pb_J (k 3) v) :: bk_W a ra k n fs op tn mn sz fd pg en bl pl wa M) sz0 av U ∧ pb_E s0 U) (pb_QI D ((ot, pb_J (k 3) v) :: bk_W a ra k n fs op tn mn sz fd pg en bl pl wa M) sz0 (pb_byl n M x y) (fun u => (ot, pb_J (k 3) u) :: bk_W a ra k n fs op tn mn sz fd pg en bl pl wa M)) 3 222 (va_A ((ot, pb_J (k 3) v) :: bk_W a ra k n fs op tn mn sz fd pg en bl pl wa M) sz0) := by
  refine va_MetW (cc := b_Lw_byteAt) (maxL := 5) (ret := some .int) (hh := pb_hh) (by decide) rfl ?_
  intro p e s m args below meth c s₁ B hml hv
  obtain ⟨⟨rfl, hsz, hP, hK, hD0⟩, hE⟩ := hv
  have hts := atoms_spec (ws := pb_wsJ) B.pre
  have hown : s.vm.findClass R_law2 = some m.cls := findClass_of_methodNamed B.named
  subst hsz
  have C : pb_C D k R_law2 b_Lw_byteAt 5 9 10400 p pb_rl s m ([.ref (a 0), .int x, .int y, .ref ot] : List Value).toArray c := ⟨B.exec, B.bytes, hml, hown, fun w h => hts w (List.mem_cons_of_mem _ h), hK, Nat.le_refl _, Nat.le_refl _⟩
  have hx := B.exec
  have hb := B.bytes
  obtain ⟨xe, hxe, e1, e2, e3, e4⟩ : ∃ xe : ExceptionTableEntry, c.exceptionTable.toList = [xe] ∧ xe.startPc = 0 ∧ xe.endPc = 10 ∧ xe.handlerPc = 13 ∧ xe.catchType = 13 := by
    obtain ⟨m9, meth9, c9, hn9, hm9, hc9, -, -, htab, -⟩ := Cond.codeWith_spec (hts _ List.mem_cons_self)
    cases B.named.symm.trans hn9
    cases B.method.symm.trans hm9
    cases (Stand.of_body B).code.symm.trans hc9
    match hq : c.exceptionTable.toList, htab with
    | [], h => rw [hq] at htab; cases htab
    | [z], h =>
      rw [hq] at htab
      simp only [List.map_cons, List.map_nil, pb_hh, List.cons.injEq, Prod.mk.injEq, and_true] at htab
      exact ⟨z, rfl, htab.1, htab.2.1, htab.2.2.1, htab.2.2.2⟩
    | _ :: _ :: _, h => rw [hq] at htab; simp [pb_hh] at htab
  rw [lg_entry_eq]
  have hl := lv_entry (n := 5) [.ref (a 0), .int x, .int y, .ref ot] (Nat.le_of_ble_eq_true rfl)
  generalize (lg_sl [.ref (a 0), .int x, .int y, .ref ot] ++ List.replicate (5 - (lg_sl [.ref (a 0), .int x, .int y, .ref ot]).length) Slot.unset).toArray = ls at hl ⊢
  have hl : lv_has ls 5 [(0, .ref (a 0)), (1, .int x), (2, .int y), (3, .ref ot)] := hl
  have hw : pb_W D (va_A ((ot, pb_J (k 3) v) :: bk_W a ra k n fs op tn mn sz fd pg en bl pl wa M) s.heap.size) s.heap ((ot, pb_J (k 3) v) :: bk_W a ra k n fs op tn mn sz fd pg en bl pl wa M) s.heap [] := ⟨hP, hD0.self, va_S.rf⟩
  generalize hQ : MQ below _ _ s 3 222 _ = Q
  have kr : ∀ (H : Heap) (locs : List Loc) (ls : Array Slot) (pc : Nat) (w : Int32) (u : Nat → Int64), decode b_Lw_byteAt pc = .ok (.ireturn, 1) → pb_W D (va_A ((ot, pb_J (k 3) v) :: bk_W a ra k n fs op tn mn sz fd pg en bl pl wa M) s.heap.size) s.heap ((ot, pb_J (k 3) u) :: bk_W a ra k n fs op tn mn sz fd pg en bl pl wa M) H locs → pb_byl n M x y w u → W p l e pb_rl s m ([.ref (a 0), .int x, .int y, .ref ot] : List Value).toArray below meth c H locs 3 222 Q (F0 m pc ls [.int w]) := by
    intro H locs ls pc w u hdg hw hp
    subst hQ
    exact W.zret B.exec B.bytes B.returns rfl (fun t ht hW => ⟨⟨w, u, rfl, hp, by rw [ht]; exact hw.1, hw.2.1⟩, hw.2.2.F ht⟩) hw.2.2.2.2 hdg B.notSynchronized
  refine lv_aload_n hx hb d_Lw_byteAt_0 rfl (lv_at hl 3 rfl) ?_
  refine lv_iconst (v := nI 0) hx hb d_Lw_byteAt_1 (by decide +kernel) ?_
  refine lv_aload_n hx hb d_Lw_byteAt_2 rfl (lv_at hl 0 rfl) ?_
  refine lv_iload_n hx hb d_Lw_byteAt_3 rfl (lv_at hl 1 rfl) ?_
  refine lv_iload_n hx hb d_Lw_byteAt_4 rfl (lv_at hl 2 rfl) ?_
  have hP1 : va_P D pb_cl (bk_W a ra k n fs op tn mn sz fd pg en bl pl wa M) s.heap := fun i q h => hP (i + 1) q h
  rcases pb_bcase hn64 x y with ⟨b, i, hbi⟩ | hno
  · have hbi' := hbi
    obtain ⟨hbn, hi, rfl, rfl⟩ := hbi'
    refine pb_vR C hP1 k_Bk_byteAt m_273 (c_Bk_byteAt l D a ra k n fs op tn mn sz fd pg en bl pl wa M b i hn64 hM hbn hi) rfl hl.1 0 0 rfl rfl rfl (by decide) ⟨Nat.zero_le _, Nat.zero_le _⟩ rfl (Nat.le_of_ble_eq_true rfl) d_Lw_byteAt_5 (fun r hr => ?_)
    subst hr
    refine lv_i2l hx hb d_Lw_byteAt_8 rfl ?_
    refine va_last hx hb hK.1 hw.1 hw.2.1 hw.2.2 0 3 rfl rfl (vp_in_nI (by decide) (by decide)) d_Lw_byteAt_9 (fun H1 locs1 p1 p2 p3 => ?_)
    refine lv_goto (tgt := 17) hx hb d_Lw_byteAt_10 (by decide) ?_
    refine lv_iconst (v := nI 0) hx hb d_Lw_byteAt_17 (by decide +kernel) ?_
    refine W.widen (k := 3) (n := 222) (by decide) (by decide) ?_
    exact kr _ _ _ _ _ (vp_updL v (nI 0).toNatClampNeg (nI (M b i)).toInt64) d_Lw_byteAt_18 ⟨p1, p2, p3⟩ (Or.inl ⟨b, i, hbi, rfl, by rw [nI_clamp (by decide)]; rfl⟩)
  · obtain ⟨cellB, hcB, hoB, hclB⟩ := va_recv hK.1 hP1 (ci := 0) (q0 := 0) rfl rfl
    refine pb_thr C k_Bk_byteAt m_273 (c_Bk_throw l hlt D a ra k n fs op tn mn sz fd pg en bl pl wa M x y hn64 hno a0 s0 h0) (fun av U g mk q => ⟨pb_Pr_bl _ _ _ _ q.1, q.2⟩) (fun U hU hW => ⟨⟨rfl, by rw [hU]; exact hP1, hK.warm hW⟩, hE.1.trans hW, fun q hq => by rw [hU]; exact hE.2 q hq⟩) rfl hl.1 hcB hoB hclB hxe (by simp [covers, e1, e2]) (by rw [e4]; decide) (by rw [e4]; exact m_cl13) ⟨by decide, by decide⟩ ⟨rfl, rfl⟩ ⟨by decide, by decide⟩ rfl (Nat.le_of_ble_eq_true rfl) d_Lw_byteAt_5 (fun H1 q g1 g2 => ?_)
    rw [e3]
    refine lv_astore (i := 4) hx hb d_Lw_byteAt_13 hl (by decide) rfl (fun ls hl => ?_)
    refine lv_iconst (v := nI 1) hx hb d_Lw_byteAt_15 (by decide +kernel) ?_
    exact kr _ _ _ _ _ _ d_Lw_byteAt_16 (pb_W_kept hw g1 g2) (Or.inr ⟨hno, rfl⟩)
end
section
-- ===== rows of the law's walk: the call of its own byteAt, of cell, the long array =====
section PBL
variable {p : Program} {l : Launch} {e : Env} {R : Room} {s : State} {m : MethodId} {args : Array Value} {below : List Frame} {meth : Method} {c : Code} {H : Heap} {locs : List Loc} {cells slots : Nat} {Q : State → Prop}
variable {cc : ByteArray} {pc : Nat} {ls : Array Slot} {rest : List Value} {D : va_G} {k : Nat → ClassId} {own : String} {nL fr lo : Nat} {A : Nat → Prop} {H0 : Heap} {ws ws' w1 w2 : va_W} {o : Nat}
theorem pb_sJ {S : Type} {post : Int32 → S → Prop} {wf : S → va_W} {idx : Nat} {As st : List Value} {s0 : State} (C : pb_C D k own cc nL fr lo p R s m args c) (hA : ∀ q, H0.size ≤ q → A q) (hw : pb_W D A H0 (w1 ++ w2) H locs) (hlk : Cond.methodLink own idx y_Lw_byteAt ∈ pb_G) (hE : ∀ U : State, U.heap = H → s.WarmedH U.vm → pb_E s0 U)
    (hM : Met l y_Lw_byteAt pb_wsJ pb_rl (fun av U => pb_P D k As w2 H.size av U ∧ pb_E s0 U) (pb_QI D w2 H.size post wf) 3 222 (va_A w2 H.size)) (hn : As.length = 4) (hls : ls.size = nL) (hd : 10 ≤ fr ∧ 8 + (5 + 11) + 10400 ≤ lo) (hf : cells + 3 ≤ R.cells ∧ slots + 222 ≤ R.slots) (hst : st = As.reverse ++ rest) (hrest : (rest.map fun v => v.category).sum ≤ 8) (hdg : decode cc pc = .ok (.invokestatic idx, 3))
    (kk : ∀ (r : Int32) (u : S) (H : Heap) (locs : List Loc), post r u → pb_W D A H0 (w1 ++ wf u) H locs → W p l e R s m args below meth c H locs (cells + 3) (slots + 222) Q (F0 m (pc + 3) ls (.int r :: rest))) : W p l e R s m args below meth c H locs cells slots Q (F0 m pc ls st) := by
  obtain ⟨hP2, hD2, hF, hjoin⟩ := pb_tail hw hA
  obtain ⟨hx, hb, hml, hown, hG, hkn, hR1, hR2⟩ := C
  subst hst
  have hgood : ∀ w ∈ pb_wsJ, ∀ (a' : Array Value) (U : State), s.WarmedH U.vm → w.before a' U = true := fun w hw a' U hW => by
    have hm : w ∈ pb_G := by
      rcases List.mem_cons.mp hw with rfl | hw
      · exact m_cw
      · exact hw
    exact word_at hW (pb_Gg hm) (hG _ hm)
  have hbl : FrameBlind (fun av U => pb_P D k As w2 H.size av U ∧ pb_E s0 U) := fun a U g mk q => ⟨pb_P_bl _ _ _ _ q.1, q.2⟩
  have hK : Back l R p e below s args y_Lw_byteAt 3 8 (PreOf R 3 222 (fun av U => pb_P D k As w2 H.size av U ∧ pb_E s0 U)) (PostOf (pb_QI D w2 H.size post wf) 3 222 (va_A w2 H.size)) :=
    va_backW (hh := pb_hh) (bytes := b_Lw_byteAt) (maxL := 5) (ret := some .int) hM hbl rfl rfl (Nat.le_trans hd.1 hR1) (Nat.le_trans hd.2 hR2) hgood List.mem_cons_self (fun a' U hW => word_at hW (Or.inl rfl) (hG _ m_0))
  obtain ⟨mk, methM, cM, hnamed, hmethM, -, -, -, -, -, -, hsig⟩ := Cond.codeWith_spec (hG _ m_cw)
  have hr : va_Run p l e R s m args below meth c H locs cells slots 3 222 (F0 m pc ls (As.reverse ++ rest)) rest (pb_QI D w2 H.size post wf As.toArray) (va_A w2 H.size) := by
    intro T hT X
    obtain ⟨v, vm₁, ⟨U', l2, c2, s2⟩, hW₁, X', ⟨g', mk', t, L, e1, e2, hq, h1, hL, h2, h3⟩, stp⟩ := X.staticBack hx hown (hG _ hlk) (hG _ m_198) (hG _ m_0) hnamed hmethM hsig (by decide) hK (g := F0 m pc ls (As.reverse ++ rest)) rfl (by show ls.size = _; rw [hml]; exact hls) (Steps.refl _) (argsL := As) (rest := rest) (fun sig h => by
        have e9 : (parseMethodDescriptor y_Lw_byteAt.desc).map (fun d => d.parameters.length) = some 4 := by decide +kernel
        rw [h] at e9
        exact hn.trans (Option.some.inj e9).symm) rfl (lv_room hrest) (by rw [hb]; exact hdg) (fun vm₁ hW₁ => ⟨hf.1, hf.2, ⟨rfl, by rw [show (T.setVm vm₁).heap = T.heap from rfl, hT], by rw [show (T.setVm vm₁).heap = T.heap from rfl, hT]; exact hP2, hkn.warm hW₁, hD2.weaken (fun _ _ _ _ => trivial)⟩, hE (T.setVm vm₁) hT hW₁⟩)
    dsimp only [Pt.U, Pt.locs, Pt.cells, Pt.slots] at X' e1 e2 h1 h2 h3 stp
    subst h1; subst h2; subst h3
    exact ⟨v, (T.setVm vm₁).calling g' mk' As.toArray, t, U', L, hT, X', hL, e1, e2, hq, fun target h => stp.trans h⟩
  refine va_calli hr hw.2.2 (fun q _ h => hF q h) hF (fun r u t H1 locs1 ht hvm hp hB hz1 hk1 hS1 => ?_)
  obtain ⟨hP1, hD1⟩ := hB
  rw [ht] at hP1
  exact kk r u H1 locs1 hp (hjoin H1 locs1 (wf u) hS1 hP1 hD1 hk1)
theorem pb_J0 (cA : ClassId) : vp_cell cA (1, .inr (.inl (fun _ => 0))) = arrV cA 1 (fun _ => defaultValue .long) := by
  rw [vp_cell_l]
  congr 1
theorem pb_newl (C : pb_C D k own cc nL fr lo p R s m args c) (hA : ∀ q, H0.size ≤ q → A q) (hw : pb_W D A H0 ws H locs) (hcells : cells + 1 ≤ R.cells) (hslots : slots + 1 ≤ R.slots) (hdg : decode cc pc = .ok (.newarray .long, 2))
    (kk : ∀ (q : Nat) (H : Heap) (locs : List Loc), pb_W D A H0 (ws ++ [(q, pb_J (k 3) (fun _ => 0))]) H locs → W p l e R s m args below meth c H locs (cells + 1) (slots + 1) Q (F0 m (pc + 2) ls (.ref q :: rest))) : W p l e R s m args below meth c H locs cells slots Q (F0 m pc ls (.int (nI 1) :: rest)) :=
  pb_newa (atype := .long) (ty := .long) (t0 := 3) (kc := k 3) (N' := 1) C hA hw (pb_Gm (by decide +kernel) rfl) rfl rfl (fun _ h1 h2 => Option.some.inj (h1.symm.trans h2)) (fun cA => pb_J0 cA) (by decide) (by decide) hcells hslots hdg kk
/-- what cell(script, 0) answers -/
def pb_c0 (L : Nat) (xs : Nat → Int32) : Int32 := if 0 < L then xs 0 else 0
abbrev pb_Px (b L : Nat) (xs : Nat → Int32) : Array Value → State → Prop := va_Pc [.ref b, .int (nI 0)] (fun U => va_X b L xs U U.heap ∧ b < U.heap.size)
theorem c_Lw_cell (l : Launch) (b L : Nat) (xs : Nat → Int32) (hL : L ≤ 2049) : Met l y_Lw_cell (pb_ws y_Lw_cell b_Lw_cell 2 (some .int)) (pb_rm 0 0 0) (pb_Px b L xs) (vp_Si (fun r => r = pb_c0 L xs)) 0 0 (fun _ => False) := by
  refine Met.ofW (cc := b_Lw_cell) (maxL := 2) (ret := some .int) (by decide) rfl ?_
  intro p e s m args below meth c s₁ B hml hv
  obtain ⟨rfl, hX, hbl⟩ := hv
  have hx := B.exec
  have hb := B.bytes
  have hS : va_S (fun _ => False) s.heap s.heap [] := va_S.rf
  rw [lg_entry_eq]
  have hl := lv_entry (n := 2) [.ref b, .int (nI 0)] (Nat.le_of_ble_eq_true rfl)
  generalize (lg_sl [.ref b, .int (nI 0)] ++ List.replicate (2 - (lg_sl [.ref b, .int (nI 0)]).length) Slot.unset).toArray = ls at hl ⊢
  have hl : lv_has ls 2 [(0, .ref b), (1, .int (nI 0))] := hl
  have kr : ∀ (pc : Nat) (r : Int32), decode b_Lw_cell pc = .ok (.ireturn, 1) → r = pb_c0 L xs → W p l e (headSpec (pb_ws y_Lw_cell b_Lw_cell 2 (some .int)) (pb_rm 0 0 0)).room s m ([.ref b, .int (nI 0)] : List Value).toArray below meth c s.heap [] 0 0 (MQ below (vp_Si (fun r => r = pb_c0 L xs)) ([.ref b, .int (nI 0)] : List Value).toArray s 0 0 (fun _ => False)) (F0 m pc ls [.int r]) := fun pc r hdg hr => W.zret B.exec B.bytes B.returns rfl (fun t ht hW => ⟨r, rfl, hr, ht⟩) (fun q h => by cases h) hdg B.notSynchronized
  refine lv_iload_n hx hb d_Lw_cell_0 rfl (lv_at hl 1 rfl) ?_
  refine lv_aload_n hx hb d_Lw_cell_1 rfl (lv_at hl 0 rfl) ?_
  refine va_slen hx hb hX hbl (fun z => z) hS d_Lw_cell_2 ?_
  refine pb_ge (a := 0) (b := L) (tgt := 12) (by decide) (by omega) hx hb d_Lw_cell_3 (by decide) (fun h => ?_) (fun h => ?_)
  · refine lv_iconst (v := nI 0) hx hb d_Lw_cell_12 (by decide +kernel) ?_
    exact kr _ _ d_Lw_cell_13 (by unfold pb_c0; rw [if_neg (by omega)]; decide +kernel)
  · refine lv_aload_n hx hb d_Lw_cell_6 rfl (lv_at hl 0 rfl) ?_
    refine lv_iload_n hx hb d_Lw_cell_7 rfl (lv_at hl 1 rfl) ?_
    refine va_sld hx hb hX hbl (fun z => z) hS (vp_in_nI h (by omega)) d_Lw_cell_8 ?_
    refine lv_goto (tgt := 13) hx hb d_Lw_cell_9 (by decide) ?_
    exact kr _ _ d_Lw_cell_13 (by unfold pb_c0; rw [if_pos h, nI_clamp (by decide)])
theorem pb_cell0 {b L idx : Nat} {xs : Nat → Int32} (C : pb_C D k own cc nL fr lo p R s m args c) (hL : L ≤ 2049) (hX : va_X b L xs s H) (hlk : Cond.methodLink own idx y_Lw_cell ∈ pb_G) (hls : ls.size = nL) (hd : 1 ≤ fr ∧ 8 + (2 + 11) ≤ lo) (hf : cells ≤ R.cells ∧ slots ≤ R.slots) (hrest : (rest.map fun v => v.category).sum ≤ 8) (hdg : decode cc pc = .ok (.invokestatic idx, 3))
    (kk : W p l e R s m args below meth c H locs cells slots Q (F0 m (pc + 3) ls (.int (pb_c0 L xs) :: rest))) : W p l e R s m args below meth c H locs cells slots Q (F0 m pc ls (.int (nI 0) :: .ref b :: rest)) := by
  obtain ⟨hx, hb, hml, hown, hG, hkn, hR1, hR2⟩ := C
  refine vp_callSi (W.runS (As := [.ref b, .int (nI 0)]) (rest := rest) ⟨hx, hb, hml, hown, hG⟩ (c_Lw_cell l b L xs hL) (pb_cwS (nL := 2) (n := 2) hG ⟨m_195, m_0, m_196, by decide, by decide, by decide +kernel⟩ hlk rfl rfl ⟨Nat.le_trans hd.1 hR1, Nat.le_trans hd.2 hR2⟩) ⟨fun a U g mk q => q, fun U hU hW => ⟨rfl, by rw [hU]; exact va_X.moved hW.alike hX, by rw [hU]; obtain ⟨scr, h1, -⟩ := hX; exact (Array.getElem?_eq_some_iff.mp h1).1⟩⟩ rfl rfl hls rfl (lv_room hrest) hdg hf) (fun r hr => ?_)
  subst hr
  exact kk
end PBL
end
section
-- ===== both sides answer the same: each relation has one answer =====
theorem pb_feed_det {fs : Nat} {x r r' : Int32} {z z' : Nat × Nat} (h : pb_feed fs x r z) (h' : pb_feed fs x r' z') : r = r' ∧ z = z' := by
  have key : ∀ v : Nat, v < 256 → fs < 48 → ¬ (nI v < 0 ∨ nI 255 < nI v ∨ fs = 48) := by
    rintro v hv hs (q | q | q)
    · exact nI_pos (by omega) q
    · have := (nI_ltI (by decide) (by omega)).mp q
      omega
    · omega
  rcases h with ⟨h1, rfl, rfl⟩ | ⟨v, hv, h2, hs, rfl, rfl⟩ <;> rcases h' with ⟨h1', rfl, rfl⟩ | ⟨v', hv', h2', hs', rfl, rfl⟩
  · exact ⟨rfl, rfl⟩
  · rw [h2'] at h1
    exact absurd h1 (key v' hv' hs')
  · rw [h2] at h1'
    exact absurd h1' (key v hv hs)
  · have e : v = v' := (nI_eq (by omega) (by omega)).mp (h2.symm.trans h2')
    rw [e]
    exact ⟨rfl, rfl⟩
theorem pb_free_det {n mn b b' : Nat} {en : Nat → Nat} (h : pb_free n mn en b) (h' : pb_free n mn en b') : b = b' := by
  rcases Nat.lt_trichotomy b b' with q | q | q
  · exact absurd (h'.2.2.2 b h.1 q) h.2.2.1
  · exact q
  · exact absurd (h.2.2.2 b' h'.1 q) h'.2.2.1
theorem pb_puts_det1 {n op mn fs : Nat} {fd en : Nat → Nat} {M : Nat → Nat → Nat} {x r r' : Int32} {z z' : Nat × Nat × Nat} (h : pb_puts n op mn fs fd en M x r z) (h' : pb_puts n op mn fs fd en M x r' z') : r = r' ∧ z = z' := by
  have key : ∀ v : Nat, v < 65536 → op = 1 → fs ≠ 0 → ¬ (op = 0 ∨ nI v < 0 ∨ nI 65535 < nI v ∨ fs = 0) := by
    rintro v hv ho hf (q | q | q | q)
    · omega
    · exact nI_pos (by omega) q
    · have := (nI_ltI (by decide) (by omega)).mp q
      omega
    · exact hf q
  rcases h with ⟨h1, rfl, rfl⟩ | ⟨ho, hf, v, hv, h2, h⟩ <;> rcases h' with ⟨h1', rfl, rfl⟩ | ⟨ho', hf', v', hv', h2', h'⟩
  · exact ⟨rfl, rfl⟩
  · rw [h2'] at h1
    exact absurd h1 (key v' hv' ho' hf')
  · rw [h2] at h1'
    exact absurd h1' (key v hv ho hf)
  · have e : v = v' := (nI_eq (by omega) (by omega)).mp (h2.symm.trans h2')
    subst e
    rcases h with ⟨q, q1, q2, q3, rfl, rfl⟩ | ⟨g1, g2, rfl, rfl⟩ | ⟨g1, g2, b, g3, rfl, rfl⟩ <;> rcases h' with ⟨q', q1', q2', q3', rfl, rfl⟩ | ⟨g1', g2', rfl, rfl⟩ | ⟨g1', g2', b', g3', rfl, rfl⟩
    · have e : q = q' := by
        rcases Nat.lt_trichotomy q q' with z | z | z
        · exact absurd q2 (q3' q z)
        · exact z
        · exact absurd q2' (q3 q' z)
      rw [e]
      exact ⟨rfl, rfl⟩
    · exact absurd q2 (g1' q q1)
    · exact absurd q2 (g1' q q1)
    · exact absurd q2' (g1 q' q1')
    · exact ⟨rfl, rfl⟩
    · rcases g2 with z | z
      · omega
      · exact absurd (z b' g3'.1 g3'.2.1) g3'.2.2.1
    · exact absurd q2' (g1 q' q1')
    · rcases g2' with z | z
      · omega
      · exact absurd (z b g3.1 g3.2.1) g3.2.2.1
    · rw [pb_free_det g3 g3']
      exact ⟨rfl, rfl⟩
theorem pb_puts_det {n op mn mm fs : Nat} {fd en : Nat → Nat} {M : Nat → Nat → Nat} {x r r' : Int32} {z z' : Nat × Nat × Nat} (hm : op = 1 → mm = mn) (h : pb_puts n op mn fs fd en M x r z) (h' : pb_puts n op mm fs fd en M x r' z') : r = r' ∧ z = z' := by
  by_cases ho : op = 1
  · rw [hm ho] at h'
    exact pb_puts_det1 h h'
  · rcases h with ⟨-, rfl, rfl⟩ | ⟨q, -⟩
    · rcases h' with ⟨-, rfl, rfl⟩ | ⟨q, -⟩
      · exact ⟨rfl, rfl⟩
      · exact absurd q ho
    · exact absurd q ho
theorem pb_drops_det {op mn mm : Nat} {x r r' : Int32} {z z' : Nat × Nat} (hl : op = 1 → mn < 2 ^ 31) (hm : op = 1 → mm = mn) (h : pb_drops op mn x r z) (h' : pb_drops op mm x r' z') : r = r' ∧ z = z' := by
  by_cases ho : op = 1
  · rw [hm ho] at h'
    have hl := hl ho
    have key : ∀ q : Nat, q < mn → ¬ (op = 0 ∨ nI q < 0 ∨ nI mn ≤ nI q) := by
      rintro q hq (z | z | z)
      · omega
      · exact nI_pos (by omega) z
      · have := (nI_leI (by omega) (by omega)).mp z
        omega
    rcases h with ⟨h1, rfl, rfl⟩ | ⟨-, q, hq, h2, rfl, rfl⟩ <;> rcases h' with ⟨h1', rfl, rfl⟩ | ⟨-, q', hq', h2', rfl, rfl⟩
    · exact ⟨rfl, rfl⟩
    · rw [h2'] at h1
      exact absurd h1 (key q' hq')
    · rw [h2] at h1'
      exact absurd h1' (key q hq)
    · rw [show q = q' from (nI_eq (by omega) (by omega)).mp (h2.symm.trans h2')]
      exact ⟨rfl, rfl⟩
  · rcases h with ⟨-, rfl, rfl⟩ | ⟨q, -⟩
    · rcases h' with ⟨-, rfl, rfl⟩ | ⟨q, -⟩
      · exact ⟨rfl, rfl⟩
      · exact absurd q ho
    · exact absurd q ho
theorem pb_crashs_det {op sz wr : Nat} {x r r' : Int32} {z z' : Nat × Nat} (hl : op = 1 → sz < 2 ^ 31) (hm : op = 1 → wr = sz) (h : pb_crashs op sz x r z) (h' : pb_crashs op wr x r' z') : r = r' ∧ z = z' := by
  by_cases ho : op = 1
  · rw [hm ho] at h'
    have hl := hl ho
    have key : ∀ q : Nat, sz ≠ 0 → q ≤ sz → ¬ (op = 0 ∨ sz = 0 ∨ nI q < 0 ∨ nI sz < nI q) := by
      rintro q h0 hq (z | z | z | z)
      · omega
      · exact h0 z
      · exact nI_pos (by omega) z
      · have := (nI_ltI (by omega) (by omega)).mp z
        omega
    rcases h with ⟨h1, rfl, rfl⟩ | ⟨-, h0, q, hq, h2, rfl, rfl⟩ <;> rcases h' with ⟨h1', rfl, rfl⟩ | ⟨-, h0', q', hq', h2', rfl, rfl⟩
    · exact ⟨rfl, rfl⟩
    · rw [h2'] at h1
      exact absurd h1 (key q' h0' hq')
    · rw [h2] at h1'
      exact absurd h1' (key q h0 hq)
    · rw [show q = q' from (nI_eq (by omega) (by omega)).mp (h2.symm.trans h2')]
      exact ⟨rfl, rfl⟩
  · rcases h with ⟨-, rfl, rfl⟩ | ⟨q, -⟩
    · rcases h' with ⟨-, rfl, rfl⟩ | ⟨q, -⟩
      · exact ⟨rfl, rfl⟩
      · exact absurd q ho
    · exact absurd q ho
theorem pb_pokes_det {n : Nat} {x y w r r' : Int32} {z z' : Nat × Nat × Nat × Nat} (hn : n ≤ 64) (h : pb_pokes n x y w r z) (h' : pb_pokes n x y w r' z') : r = r' ∧ z = z' := by
  have key : ∀ b i v : Nat, b < n → i < 64 → 1 ≤ v → v < 256 → ¬ (nI b < 0 ∨ nI n ≤ nI b ∨ nI i < 0 ∨ nI 64 ≤ nI i ∨ nI v < nI 1 ∨ nI 255 < nI v) := by
    rintro b i v hb hi h1 hv (z | z | z | z | z | z)
    · exact nI_pos (by omega) z
    · have := (nI_leI (by omega) (by omega)).mp z
      omega
    · exact nI_pos (by omega) z
    · have := (nI_leI (by omega) (by omega)).mp z
      omega
    · have := (nI_ltI (by omega) (by omega)).mp z
      omega
    · have := (nI_ltI (by omega) (by omega)).mp z
      omega
  rcases h with ⟨h1, rfl, rfl⟩ | ⟨b, i, v, hb, hi, h1, hv, e1, e2, e3, rfl, rfl⟩ <;> rcases h' with ⟨h1', rfl, rfl⟩ | ⟨b', i', v', hb', hi', h1', hv', e1', e2', e3', rfl, rfl⟩
  · exact ⟨rfl, rfl⟩
  · rw [e1', e2', e3'] at h1
    exact absurd h1 (key b' i' v' hb' hi' h1' hv')
  · rw [e1, e2, e3] at h1'
    exact absurd h1' (key b i v hb hi h1 hv)
  · rw [show b = b' from (nI_eq (by omega) (by omega)).mp (e1.symm.trans e1'), show i = i' from (nI_eq (by omega) (by omega)).mp (e2.symm.trans e2'), show v = v' from (nI_eq (by omega) (by omega)).mp (e3.symm.trans e3')]
    exact ⟨rfl, rfl⟩
theorem pb_finds_det {op mn mm : Nat} {en : Nat → Nat} {M : Nat → Nat → Nat} {x y r r' : Int32} (hM : ∀ x j, M x j < 256) (hm : op = 1 → mm = mn) (h : pb_finds op mn en M x y r) (h' : pb_finds op mm en M x y r') : r = r' := by
  by_cases ho : op = 1
  · rw [hm ho] at h'
    rcases h with ⟨q, -⟩ | ⟨-, g1, rfl⟩ | ⟨-, q, q1, q2, q3, h⟩
    · omega
    · rcases h' with ⟨q, -⟩ | ⟨-, g1', rfl⟩ | ⟨-, q', q1', q2', q3', h'⟩
      · omega
      · rfl
      · exact absurd q2' (g1 q' q1')
    · rcases h' with ⟨q, -⟩ | ⟨-, g1', rfl⟩ | ⟨-, q', q1', q2', q3', h'⟩
      · omega
      · exact absurd q2 (g1' q q1)
      · have e : q = q' := by
          rcases Nat.lt_trichotomy q q' with z | z | z
          · exact absurd q2' (q3 q' z q1')
          · exact z
          · exact absurd q2 (q3' q z q1)
        subst e
        have key : ∀ i : Nat, i < 48 → i < M (en q) 2 → ¬ (nI i < 0 ∨ nI (M (en q) 2) ≤ nI i ∨ nI 48 ≤ nI i) := by
          have hb := hM (en q) 2
          rintro i hi hi2 (z | z | z)
          · exact nI_pos (by omega) z
          · have := (nI_leI (by omega) (by omega)).mp z
            omega
          · have := (nI_leI (by omega) (by omega)).mp z
            omega
        rcases h with ⟨g1, rfl⟩ | ⟨i, i1, i2, e1, rfl⟩ <;> rcases h' with ⟨g1', rfl⟩ | ⟨i', i1', i2', e1', rfl⟩
        · rfl
        · rw [e1'] at g1
          exact absurd g1 (key i' i1' i2')
        · rw [e1] at g1'
          exact absurd g1' (key i i1 i2)
        · rw [show i = i' from (nI_eq (by omega) (by omega)).mp (e1.symm.trans e1')]
  · have key : ∀ mn r, pb_finds op mn en M x y r → r = -1 := by
      rintro mn r (⟨-, h⟩ | ⟨h, -⟩ | ⟨h, -⟩)
      · exact h
      · exact absurd h ho
      · exact absurd h ho
    rw [key _ _ h, key _ _ h']
theorem pb_entrys_det {op mn mm : Nat} {en : Nat → Nat} {M : Nat → Nat → Nat} {x y r r' : Int32} (hl : op = 1 → mn < 2 ^ 31) (hm : op = 1 → mm = mn) (h : pb_entrys op mn en M x y r) (h' : pb_entrys op mm en M x y r') : r = r' := by
  by_cases ho : op = 1
  · rw [hm ho] at h'
    have hl := hl ho
    have key : ∀ q : Nat, q < mn → ¬ (op = 0 ∨ nI q < 0 ∨ nI mn ≤ nI q) := by
      rintro q hq (z | z | z)
      · omega
      · exact nI_pos (by omega) z
      · have := (nI_leI (by omega) (by omega)).mp z
        omega
    have d1 : nI 0 ≠ nI 1 := by decide +kernel
    have d2 : nI 0 ≠ nI 2 := by decide +kernel
    have d3 : nI 1 ≠ nI 2 := by decide +kernel
    rcases h with ⟨h1, rfl⟩ | ⟨-, q, hq, h2, h⟩ <;> rcases h' with ⟨h1', rfl⟩ | ⟨-, q', hq', h2', h'⟩
    · rfl
    · rw [h2'] at h1
      exact absurd h1 (key q' hq')
    · rw [h2] at h1'
      exact absurd h1' (key q hq)
    · have e : q = q' := (nI_eq (by omega) (by omega)).mp (h2.symm.trans h2')
      subst e
      rcases h with ⟨e1, rfl⟩ | ⟨e1, rfl⟩ | ⟨e1, rfl⟩ | ⟨e1, e2, e3, rfl⟩ <;> rcases h' with ⟨f1, rfl⟩ | ⟨f1, rfl⟩ | ⟨f1, rfl⟩ | ⟨f1, f2, f3, rfl⟩ <;> first
        | rfl
        | exact absurd (e1.symm.trans f1) (by assumption)
        | exact absurd (f1.symm.trans e1) (by assumption)
        | exact absurd e1 (by assumption)
        | exact absurd f1 (by assumption)
  · have key : ∀ mn r, pb_entrys op mn en M x y r → r = -1 := by
      rintro mn r (⟨-, h⟩ | ⟨h, -⟩)
      · exact h
      · exact absurd h ho
    rw [key _ _ h, key _ _ h']
theorem pb_bads_det {n op mn mm t : Nat} {en : Nat → Nat} {M : Nat → Nat → Nat} {r r' : Int32} (hm : op = 1 → mm = mn) (h : pb_bads n op t mn en M r) (h' : pb_bads n op t mm en M r') : r = r' := by
  by_cases ho : op = 1
  · rw [hm ho] at h'
    rcases h with ⟨q, -⟩ | ⟨-, g1, rfl⟩ | ⟨-, g1, b, b1, b2, b3, b4, b5, rfl⟩ | ⟨-, g1, g2, rfl⟩ <;> rcases h' with ⟨q, -⟩ | ⟨-, f1, rfl⟩ | ⟨-, f1, c, c1, c2, c3, c4, c5, rfl⟩ | ⟨-, f1, f2, rfl⟩
    all_goals try omega
    · rfl
    · exact absurd f1 g1
    · exact absurd f1 g1
    · exact absurd g1 f1
    · rcases Nat.lt_trichotomy b c with z | z | z
      · exact absurd ⟨b3, b4⟩ (c5 b b1 z)
      · rw [z]
      · exact absurd ⟨c3, c4⟩ (b5 c c1 z)
    · exact absurd ⟨b3, b4⟩ (f2 b b1 b2)
    · exact absurd g1 f1
    · exact absurd ⟨c3, c4⟩ (g2 c c1 c2)
    · rfl
  · have key : ∀ mn r, pb_bads n op t mn en M r → r = -1 := by
      rintro mn r (⟨-, h⟩ | ⟨h, -⟩ | ⟨h, -⟩ | ⟨h, -⟩)
      · exact h
      · exact absurd h ho
      · exact absurd h ho
      · exact absurd h ho
    rw [key _ _ h, key _ _ h']
theorem pb_reops_det {n : Nat} {M : Nat → Nat → Nat} {r r' : Int32} {z z' : Nat} (h : pb_reops n M r z) (h' : pb_reops n M r' z') : r = r' ∧ z = z' := by
  rcases h with ⟨a1, a2, rfl, rfl⟩ | ⟨a1, a2, rfl, rfl⟩ | ⟨a1, a2, a3, ⟨w, ⟨⟨e, e1, e2, e3⟩, e4⟩, rfl⟩, rfl⟩ | ⟨a1, a2, a3, a4, rfl, rfl⟩ <;> rcases h' with ⟨b1, b2, rfl, rfl⟩ | ⟨b1, b2, rfl, rfl⟩ | ⟨b1, b2, b3, ⟨w', ⟨⟨f, f1, f2, f3⟩, f4⟩, rfl⟩, rfl⟩ | ⟨b1, b2, b3, b4, rfl, rfl⟩
  all_goals try omega
  · exact ⟨rfl, rfl⟩
  · exact ⟨rfl, rfl⟩
  · exact absurd ⟨b2, b3⟩ a2
  · exact absurd ⟨b2, b3⟩ a2
  · exact absurd ⟨a2, a3⟩ b2
  · have g1 := e4 f f1 (by rw [f2]; exact f3)
    have g2 := f4 e e1 (by rw [e2]; exact e3)
    rw [show w = w' by omega]
    exact ⟨rfl, rfl⟩
  · exact absurd (b4 e e1) (by rw [e2]; exact e3)
  · exact absurd ⟨a2, a3⟩ b2
  · exact absurd (a4 f f1) (by rw [f2]; exact f3)
  · exact ⟨rfl, rfl⟩
theorem pb_reops_z {n : Nat} {M : Nat → Nat → Nat} {r : Int32} {z : Nat} (h : pb_reops n M r z) : z = 0 ∨ (z = 1 ∧ (M 0 0 = 1 ∨ M 0 0 = 2) ∧ pb_rok n (M (M 0 0))) := by
  rcases h with ⟨-, -, -, h⟩ | ⟨-, -, -, h⟩ | ⟨-, -, -, -, h⟩ | ⟨h1, -, h2, -, -, h⟩
  · exact Or.inl h
  · exact Or.inl h
  · exact Or.inl h
  · exact Or.inr ⟨h, h1, h2⟩
theorem pb_byl_det {n : Nat} {M : Nat → Nat → Nat} {x y r r' : Int32} {u : Nat → Int64} {z : Nat} (hn : n ≤ 64) (h : pb_byl n M x y r u) (h' : pb_byts n M x y r' z) : (r = nI 0 ∧ z = 0 ∧ u 0 = r'.toInt64) ∨ (r = nI 1 ∧ z = 1) := by
  have key : ∀ b i : Nat, b < n → i < 64 → ¬ pb_nob n (nI b) (nI i) := by
    rintro b i hb hi (z | z | z | z)
    · exact nI_pos (by omega) z
    · have := (nI_leI (by omega) (by omega)).mp z
      omega
    · exact nI_pos (by omega) z
    · have := (nI_leI (by omega) (by omega)).mp z
      omega
  rcases h with ⟨b, i, ⟨b1, b2, rfl, rfl⟩, rfl, e1⟩ | ⟨g1, rfl⟩ <;> rcases h' with ⟨b', i', ⟨c1, c2, e2, e3⟩, rfl, rfl⟩ | ⟨g1', rfl, rfl⟩
  · have h1 : b = b' := (nI_eq (by omega) (by omega)).mp e2
    have h2 : i = i' := (nI_eq (by omega) (by omega)).mp e3
    subst h1; subst h2
    exact Or.inl ⟨rfl, rfl, e1⟩
  · exact absurd g1' (key b i b1 b2)
  · rw [e2, e3] at g1
    exact absurd g1 (key b' i' c1 c2)
  · exact Or.inr ⟨rfl, rfl⟩
theorem pb_clamp_det {x : Int32} {n n' : Nat} (h : pb_clamp x n) (h' : pb_clamp x n') : n = n' := by
  have k1 : ∀ n : Nat, 4 ≤ n → n ≤ 64 → ¬ nI n < nI 4 := fun n h1 h2 q => by
    have := (nI_ltI (by omega) (by decide)).mp q
    omega
  have k2 : ∀ n : Nat, 4 ≤ n → n ≤ 64 → ¬ nI 64 < nI n := fun n h1 h2 q => by
    have := (nI_ltI (by decide) (by omega)).mp q
    omega
  have k3 : x < nI 4 → ¬ nI 64 < x := fun a b => absurd (Int32.lt_trans b a) (by decide +kernel)
  rcases h with ⟨a, rfl⟩ | ⟨a, rfl⟩ | ⟨rfl, a, b⟩ <;> rcases h' with ⟨a', rfl⟩ | ⟨a', rfl⟩ | ⟨e, a', b'⟩
  · rfl
  · exact absurd a' (k3 a)
  · rw [e] at a
    exact absurd a (k1 n' a' b')
  · exact absurd a (k3 a')
  · rfl
  · rw [e] at a
    exact absurd a (k2 n' a' b')
  · exact absurd a' (k1 n a b)
  · exact absurd a' (k2 n a b)
  · exact (nI_eq (by omega) (by omega)).mp e
theorem pb_clamp_b {x : Int32} {n : Nat} (h : pb_clamp x n) : 4 ≤ n ∧ n ≤ 64 := by
  rcases h with ⟨-, rfl⟩ | ⟨-, rfl⟩ | ⟨-, a, b⟩
  · exact ⟨by decide, by decide⟩
  · exact ⟨by decide, by decide⟩
  · exact ⟨a, b⟩
end
section
-- ===== what holds between two calls of the law =====
def pb_L (n fs op : Nat) (tn : Int32) (mn sz : Nat) (fd pg en bl pl wa : Nat → Nat) (M : Nat → Nat → Nat) (t mm wr : Nat) (eb wh bf : Nat → Nat) : Prop :=
  n ≤ 64 ∧ 4 ≤ n ∧ (∀ x j, M x j < 256) ∧ fs ≤ 48 ∧ (∀ j, fd j < 256) ∧ (∀ j, pg j < 256) ∧ op ≤ 1 ∧
  (op = 1 → tn = nI t ∧ mm = mn ∧ wr = sz ∧ (∀ q, q < mn → eb q = en q) ∧ (∀ q, q < sz → wh q = 64 * bl q + pl q ∧ bf q = wa q) ∧ pb_inv n t mn sz en bl pl wa)
section PBK
variable {n fs op : Nat} {tn : Int32} {mn sz : Nat} {fd pg en bl pl wa : Nat → Nat} {M : Nat → Nat → Nat} {t mm wr : Nat} {eb wh bf : Nat → Nat}
theorem pb_L.ho (h : pb_L n fs op tn mn sz fd pg en bl pl wa M t mm wr eb wh bf) : op = 1 → tn = nI t ∧ pb_inv n t mn sz en bl pl wa := fun q => ⟨(h.2.2.2.2.2.2.2 q).1, (h.2.2.2.2.2.2.2 q).2.2.2.2.2⟩
theorem pb_L.hm (h : pb_L n fs op tn mn sz fd pg en bl pl wa M t mm wr eb wh bf) : op = 1 → (∀ q, q < mm → eb q = en q) ∧ (∀ q, q < wr → wh q = 64 * bl q + pl q ∧ bf q = wa q) ∧ pb_inv n t mm wr en bl pl wa := fun q => by
  obtain ⟨h1, h2, h3, h4, h5, h6⟩ := h.2.2.2.2.2.2.2 q
  subst h2; subst h3
  exact ⟨h4, h5, h6⟩
theorem pb_L.emm (h : pb_L n fs op tn mn sz fd pg en bl pl wa M t mm wr eb wh bf) : op = 1 → mm = mn := fun q => (h.2.2.2.2.2.2.2 q).2.1
theorem pb_L.ewr (h : pb_L n fs op tn mn sz fd pg en bl pl wa M t mm wr eb wh bf) : op = 1 → wr = sz := fun q => (h.2.2.2.2.2.2.2 q).2.2.1
theorem pb_L.ml (h : pb_L n fs op tn mn sz fd pg en bl pl wa M t mm wr eb wh bf) : op = 1 → mn < 2 ^ 31 := fun q => by
  have := (h.ho q).2.2.1
  omega
theorem pb_L.sl (h : pb_L n fs op tn mn sz fd pg en bl pl wa M t mm wr eb wh bf) : op = 1 → sz < 2 ^ 31 := fun q => by
  have := (h.ho q).2.2.2.2.1
  omega
theorem pb_up_lt {f : Nat → Nat} {i v : Nat} (h : ∀ j, f j < 256) (hv : v < 256) : ∀ j, va_up f i v j < 256 := by
  intro j
  unfold va_up
  split
  · exact hv
  · exact h j
theorem pb_L.page (h : pb_L n fs op tn mn sz fd pg en bl pl wa M t mm wr eb wh bf) {pg' : Nat → Nat} (hp : ∀ j, pg' j < 256) : pb_L n fs op tn mn sz fd pg' en bl pl wa M t mm wr eb wh bf := ⟨h.1, h.2.1, h.2.2.1, h.2.2.2.1, h.2.2.2.2.1, hp, h.2.2.2.2.2.2.1, h.2.2.2.2.2.2.2⟩
theorem pb_L.feed (h : pb_L n fs op tn mn sz fd pg en bl pl wa M t mm wr eb wh bf) {v : Nat} (h1 : fs < 48) (h2 : v < 256) : pb_L n (fs + 1) op tn mn sz (va_up fd fs v) pg en bl pl wa M t mm wr eb wh bf := ⟨h.1, h.2.1, h.2.2.1, h1, pb_up_lt h.2.2.2.2.1 h2, h.2.2.2.2.2.1, h.2.2.2.2.2.2.1, h.2.2.2.2.2.2.2⟩
theorem pb_L.empty (h : pb_L n fs op tn mn sz fd pg en bl pl wa M t mm wr eb wh bf) {pg' : Nat → Nat} (hp : ∀ j, pg' j < 256) : pb_L n 0 op tn mn sz fd pg' en bl pl wa M t mm wr eb wh bf := ⟨h.1, h.2.1, h.2.2.1, by decide, h.2.2.2.2.1, hp, h.2.2.2.2.2.2.1, h.2.2.2.2.2.2.2⟩
theorem pb_L.poke (h : pb_L n fs op tn mn sz fd pg en bl pl wa M t mm wr eb wh bf) {b i v : Nat} (hv : v < 256) : pb_L n fs op tn mn sz fd pg en bl pl wa (pb_put1 M b i (M b i ^^^ v)) t mm wr eb wh bf := ⟨h.1, h.2.1, pb_put1_lt h.2.2.1 (pb_xor_lt (h.2.2.1 _ _) hv), h.2.2.2.1, h.2.2.2.2.1, h.2.2.2.2.2.1, h.2.2.2.2.2.2.1, h.2.2.2.2.2.2.2⟩
theorem pb_back_lt {lo : Nat} : ∀ (d : Nat) (M : Nat → Nat → Nat), (∀ q, lo ≤ q → q < lo + d → wa q < 256) → (∀ x j, M x j < 256) → ∀ x j, pb_back bl pl wa lo d M x j < 256
  | 0, M, _, hM => hM
  | d + 1, M, hw, hM => pb_back_lt d _ (fun q h1 h2 => hw q h1 (by omega)) (pb_put1_lt hM (hw (lo + d) (by omega) (by omega)))
theorem pb_L.crash (h : pb_L n fs op tn mn sz fd pg en bl pl wa M t mm wr eb wh bf) (ho : op = 1) {q : Nat} (hq : q ≤ sz) : pb_L n fs 0 tn mn 0 fd pg en bl pl wa (pb_back bl pl wa q (sz - q) M) t mm wr eb wh bf := by
  refine ⟨h.1, h.2.1, pb_back_lt _ _ (fun j h1 h2 => ?_) h.2.2.1, h.2.2.2.1, h.2.2.2.2.1, h.2.2.2.2.2.1, by decide, fun z => absurd z (by decide)⟩
  exact ((h.ho ho).2.2.2.2.2 j (by omega)).2.2
theorem pb_L.shut (h : pb_L n fs op tn mn sz fd pg en bl pl wa M t mm wr eb wh bf) {tn' : Int32} {mn' : Nat} {en' : Nat → Nat} {t' mm' : Nat} {eb' : Nat → Nat} : pb_L n fs 0 tn' mn' 0 fd pg en' bl pl wa M t' mm' 0 eb' wh bf := ⟨h.1, h.2.1, h.2.2.1, h.2.2.2.1, h.2.2.2.2.1, h.2.2.2.2.2.1, by decide, fun z => absurd z (by decide)⟩
theorem pb_L.unshut (h : pb_L n fs op tn mn sz fd pg en bl pl wa M t mm wr eb wh bf) (h1 : M 0 0 = 1 ∨ M 0 0 = 2) (h2 : pb_rok n (M (M 0 0))) {en' : Nat → Nat} (h3 : ∀ e, e < M (M 0 0) 0 → en' e = M (M 0 0) (1 + e)) : pb_L n fs 1 (nI (M 0 0)) (M (M 0 0) 0) 0 fd pg en' bl pl wa M (M 0 0) (M (M 0 0) 0) 0 (pb_fill eb 0 (M (M 0 0) 0) (fun j => M (M 0 0) (1 + j))) wh bf := by
  refine ⟨h.1, h.2.1, h.2.2.1, h.2.2.2.1, h.2.2.2.2.1, h.2.2.2.2.2.1, by decide, fun _ => ⟨rfl, rfl, rfl, fun q hq => ?_, fun q hq => absurd hq (Nat.not_lt_zero q), h1, h2.1, fun q hq => ?_, by decide, fun q hq => absurd hq (Nat.not_lt_zero q)⟩⟩
  · rw [pb_fill_in (Nat.zero_le _) (by omega), h3 q hq]
    rfl
  · rw [h3 q hq]
    exact ⟨(h2.2 q hq).1, (h2.2 q hq).2.1⟩
/-- the log behind a turn -/
theorem pb_turn_b {w : Nat → Nat} {q : Nat} (hq : q < sz + 65) : pb_turnb w sz t q = if q < sz then w q else if q < sz + 64 then 3 - t else 0 := by
  unfold pb_turnb
  by_cases h1 : q < sz
  · rw [if_pos h1, va_up_ne _ _ (by omega), pb_fill_out (Or.inl h1)]
  · rw [if_neg h1]
    by_cases h2 : q < sz + 64
    · rw [if_pos h2, va_up_ne _ _ (by omega), pb_fill_in (by omega) (by omega)]
    · rw [if_neg h2, show q = sz + 64 by omega, va_up_self]
theorem pb_turn_p {w : Nat → Nat} {q : Nat} (hq : q < sz + 65) : pb_turnp w sz q = if q < sz then w q else if q < sz + 64 then q - sz else 0 := by
  unfold pb_turnp
  by_cases h1 : q < sz
  · rw [if_pos h1, va_up_ne _ _ (by omega), pb_fill_out (Or.inl h1)]
  · rw [if_neg h1]
    by_cases h2 : q < sz + 64
    · rw [if_pos h2, va_up_ne _ _ (by omega), pb_fill_in (by omega) (by omega)]
    · rw [if_neg h2, show q = sz + 64 by omega, va_up_self]
theorem pb_turn_h {w : Nat → Nat} {q : Nat} (hq : q < sz + 65) : pb_turnh w sz t q = if q < sz then w q else if q < sz + 64 then 64 * (3 - t) + (q - sz) else 0 := by
  unfold pb_turnh
  by_cases h1 : q < sz
  · rw [if_pos h1, va_up_ne _ _ (by omega), pb_fill_out (Or.inl h1)]
  · rw [if_neg h1]
    by_cases h2 : q < sz + 64
    · rw [if_pos h2, va_up_ne _ _ (by omega), pb_fill_in (by omega) (by omega)]
    · rw [if_neg h2, show q = sz + 64 by omega, va_up_self]
theorem pb_turn_w {w g : Nat → Nat} {q : Nat} (hq : q < sz + 65) : pb_turnw w M sz t g q = if q < sz then w q else if q < sz + 64 then M (3 - t) (q - sz) else pb_rowf M (3 - t) 64 g 0 0 := by
  unfold pb_turnw
  by_cases h1 : q < sz
  · rw [if_pos h1, va_up_ne _ _ (by omega), pb_fill_out (Or.inl h1)]
  · rw [if_neg h1]
    by_cases h2 : q < sz + 64
    · rw [if_pos h2, va_up_ne _ _ (by omega), pb_fill_in (by omega) (by omega)]
    · rw [if_neg h2, show q = sz + 64 by omega, va_up_self]
theorem pb_turn_lt {g : Nat → Nat} (ht : t = 1 ∨ t = 2) (hn : 4 ≤ n) (hM : ∀ x j, M x j < 256) (hg : ∀ j, j < 64 → g j < 256) (h : ∀ q, q < sz → bl q < n ∧ pl q < 64 ∧ wa q < 256) : ∀ q, q < sz + 65 → pb_turnb bl sz t q < n ∧ pb_turnp pl sz q < 64 ∧ pb_turnw wa M sz t g q < 256 := by
  intro q hq
  rw [pb_turn_b hq, pb_turn_p hq, pb_turn_w hq]
  by_cases h1 : q < sz
  · rw [if_pos h1, if_pos h1, if_pos h1]
    exact h q h1
  · rw [if_neg h1, if_neg h1, if_neg h1]
    by_cases h2 : q < sz + 64
    · rw [if_pos h2, if_pos h2, if_pos h2]
      exact ⟨by omega, by omega, hM _ _⟩
    · rw [if_neg h2, if_neg h2, if_neg h2]
      exact ⟨by omega, by omega, pb_rowf_lt hM hg _ _⟩
theorem pb_turn_rel {g : Nat → Nat} (h : ∀ q, q < sz → wh q = 64 * bl q + pl q ∧ bf q = wa q) : ∀ q, q < sz + 65 → pb_turnh wh sz t q = 64 * pb_turnb bl sz t q + pb_turnp pl sz q ∧ pb_turnw bf M sz t g q = pb_turnw wa M sz t g q := by
  intro q hq
  rw [pb_turn_b hq, pb_turn_p hq, pb_turn_w hq, pb_turn_w hq, pb_turn_h hq]
  by_cases h1 : q < sz
  · rw [if_pos h1, if_pos h1, if_pos h1, if_pos h1, if_pos h1]
    exact h q h1
  · rw [if_neg h1, if_neg h1, if_neg h1, if_neg h1, if_neg h1]
    by_cases h2 : q < sz + 64
    · rw [if_pos h2, if_pos h2, if_pos h2, if_pos h2]
      exact ⟨rfl, rfl⟩
    · rw [if_neg h2, if_neg h2, if_neg h2, if_neg h2]
      exact ⟨rfl, rfl⟩
theorem pb_turnM_lt {g : Nat → Nat} (ht : t = 1 ∨ t = 2) (hM : ∀ x j, M x j < 256) (hg : ∀ j, j < 64 → g j < 256) : ∀ x j, pb_turnM M t g x j < 256 := pb_put1_lt (pb_rowf_lt hM hg) (by omega)
theorem pb_L.put (h : pb_L n fs op tn mn sz fd pg en bl pl wa M t mm wr eb wh bf) (ho : op = 1) {v b : Nat} (hv : v < 65536) (hmn : mn < 40) (hb3 : 3 ≤ b) (hbn : b < n) {pg' : Nat → Nat} (hp : ∀ j, pg' j < 256) :
    pb_L n 0 op (nI (3 - t)) (mn + 1) 129 fd pg' (va_up en mn b) (pb_turnb (pb_fill bl 0 64 (fun _ => b)) 64 t) (pb_turnp (pb_fill pl 0 64 (fun j => j)) 64) (pb_turnw (pb_fill wa 0 64 (fun j => M b j)) (pb_rowf M b 64 (pb_pe v fs fd)) 64 t (pb_pr mn en b)) (pb_turnM (pb_rowf M b 64 (pb_pe v fs fd)) t (pb_pr mn en b)) (3 - t) (mn + 1) 129 (va_up eb mn b) (pb_turnh (pb_fill wh 0 64 (fun j => 64 * b + j)) 64 t) (pb_turnw (pb_fill bf 0 64 (fun j => M b j)) (pb_rowf M b 64 (pb_pe v fs fd)) 64 t (pb_pr mn en b)) := by
  obtain ⟨g1, g2, g3, g4, g5, g6⟩ := h.2.2.2.2.2.2.2 ho
  obtain ⟨i1, i2, i3, i4, i5⟩ := g6
  have hn := h.1
  have hM := h.2.2.1
  have hup : ∀ q, q < mn + 1 → 3 ≤ va_up en mn b q ∧ va_up en mn b q < n := by
    intro q hq
    by_cases e : q = mn
    · rw [e, va_up_self]
      exact ⟨hb3, hbn⟩
    · rw [va_up_ne _ _ e]
      exact i3 q (by omega)
  have hpe : ∀ j, j < 64 → pb_pe v fs fd j < 256 := fun j _ => pb_seal_lt (pb_ent_lt hv h.2.2.2.1 h.2.2.2.2.1) j
  have hpr : ∀ j, j < 64 → pb_pr mn en b j < 256 := fun j _ => pb_seal_lt (pb_root_lt (by omega) (fun q hq => by have := (hup q hq).2; omega)) j
  have hM1 : ∀ x j, pb_rowf M b 64 (pb_pe v fs fd) x j < 256 := pb_rowf_lt hM hpe
  refine ⟨hn, h.2.1, pb_turnM_lt i1 hM1 hpr, by decide, h.2.2.2.2.1, hp, h.2.2.2.2.2.2.1, fun _ => ⟨rfl, rfl, rfl, fun q hq => ?_, ?_, by omega, by omega, hup, by decide, ?_⟩⟩
  · by_cases e : q = mn
    · rw [e, va_up_self, va_up_self]
    · rw [va_up_ne _ _ e, va_up_ne _ _ e]
      exact g4 q (by omega)
  · refine pb_turn_rel (sz := 64) (fun q hq => ?_)
    rw [pb_fill_in (Nat.zero_le _) (by omega), pb_fill_in (Nat.zero_le _) (by omega), pb_fill_in (Nat.zero_le _) (by omega), pb_fill_in (Nat.zero_le _) (by omega), pb_fill_in (Nat.zero_le _) (by omega)]
    exact ⟨rfl, rfl⟩
  · refine pb_turn_lt (sz := 64) i1 h.2.1 hM1 hpr (fun q hq => ?_)
    rw [pb_fill_in (Nat.zero_le _) (by omega), pb_fill_in (Nat.zero_le _) (by omega), pb_fill_in (Nat.zero_le _) (by omega)]
    exact ⟨hbn, by omega, hM _ _⟩
theorem pb_gone_at {q j : Nat} (hq : q < mn) (hj : j < mn - 1) : pb_gone en q mn j = en (if j < q then j else j + 1) := by
  unfold pb_gone
  by_cases h : j < q
  · rw [if_pos h, pb_fill_out (Or.inl h)]
  · rw [if_neg h, pb_fill_in (by omega) (by omega)]
    congr 1
    omega
theorem pb_L.drop (h : pb_L n fs op tn mn sz fd pg en bl pl wa M t mm wr eb wh bf) (ho : op = 1) {q : Nat} (hq : q < mn) {pg' : Nat → Nat} (hp : ∀ j, pg' j < 256) :
    pb_L n fs op (nI (3 - t)) (mn - 1) 65 fd pg' (pb_gone en q mn) (pb_turnb bl 0 t) (pb_turnp pl 0) (pb_turnw wa M 0 t (pb_seal (pb_root mn en q))) (pb_turnM M t (pb_seal (pb_root mn en q))) (3 - t) (mn - 1) 65 (pb_gone eb q mn) (pb_turnh wh 0 t) (pb_turnw bf M 0 t (pb_seal (pb_root mn en q))) := by
  obtain ⟨g1, g2, g3, g4, g5, g6⟩ := h.2.2.2.2.2.2.2 ho
  obtain ⟨i1, i2, i3, i4, i5⟩ := g6
  have hn := h.1
  have hM := h.2.2.1
  have hpr : ∀ j, j < 64 → pb_seal (pb_root mn en q) j < 256 := fun j _ => pb_seal_lt (pb_root_lt i2 (fun q hq => by have := (i3 q hq).2; omega)) j
  refine ⟨hn, h.2.1, pb_turnM_lt i1 hM hpr, h.2.2.2.1, h.2.2.2.2.1, hp, h.2.2.2.2.2.2.1, fun _ => ⟨rfl, rfl, rfl, fun j hj => ?_, pb_turn_rel (sz := 0) (fun j hj => absurd hj (Nat.not_lt_zero j)), by omega, by omega, fun j hj => ?_, by decide, pb_turn_lt (sz := 0) i1 h.2.1 hM hpr (fun j hj => absurd hj (Nat.not_lt_zero j))⟩⟩
  · rw [pb_gone_at hq hj, pb_gone_at hq hj]
    exact g4 _ (by split <;> omega)
  · rw [pb_gone_at hq hj]
    exact i3 _ (by split <;> omega)
end PBK
end
section
-- ===== the law: one case each (by gen/m12.py) =====
abbrev lw_W (a ra : Nat → Nat) (k : Nat → ClassId) (n : Nat) (a' : Nat → Nat) (ot : Nat) (fs op : Nat) (tn : Int32) (mn sz : Nat) (fd pg en bl pl wa : Nat → Nat) (M : Nat → Nat → Nat) (t mm th wr : Nat) (eb wh bf : Nat → Nat) (v : Nat → Int64) : va_W := md_W a' k n op t mm th fs wr (pb_flat M) eb fd wh bf ++ ((ot, pb_J (k 3) v) :: bk_W a ra k n fs op tn mn sz fd pg en bl pl wa M)
theorem lw_toB {D : va_G} {A : Nat → Prop} {H0 H : Heap} {w1 w2 : va_W} {j : Nat × va_E} {locs : List Loc} (h : pb_W D A H0 (w1 ++ (j :: w2)) H locs) : pb_W D A H0 ((w1 ++ [j]) ++ w2) H locs := by
  rw [List.append_assoc]
  exact h
theorem lw_ofB {D : va_G} {A : Nat → Prop} {H0 H : Heap} {w1 w2 : va_W} {j : Nat × va_E} {locs : List Loc} (h : pb_W D A H0 ((w1 ++ [j]) ++ w2) H locs) : pb_W D A H0 (w1 ++ (j :: w2)) H locs := by
  rw [List.append_assoc] at h
  exact h
section LWC
variable {p : Program} {l : Launch} {e : Env} {R : Room} {s : State} {m : MethodId} {args : Array Value} {below : List Frame} {meth : Method} {c : Code} {H : Heap} {locs : List Loc} {cells slots : Nat} {Q : State → Prop}
variable {pc : Nat} {ls : Array Slot} {rest : List Value} {D : va_G} {k : Nat → ClassId} {A : Nat → Prop}
theorem pb_lcmp {cc : ByteArray} (hexec : p.tables.exec = Jvm.exec) (hb : c.code = cc) {x : Int64} (hdg : decode cc pc = .ok (.lcmp, 1)) (kk : W p l e R s m args below meth c H locs cells slots Q (F0 m (pc + 1) ls (.int 0 :: rest))) : W p l e R s m args below meth c H locs cells slots Q (F0 m pc ls (.long x :: .long x :: rest)) := by
  intro T hT X
  obtain ⟨t, a, b⟩ := kk T hT X
  refine ⟨t, ?_, b⟩
  jvm_step X.here [X.here.top, hexec, hb, hdg]
  exact a
/-- script[i + j] -/
theorem lw_ld {b L i j o4 : Nat} {xs : Nat → Int32} {n0 : Int} {lv : List (Nat × Value)} (C : pb_C D k R_law2 code 7 15 10622 p R s m args c) (hX : va_X b L xs s s.heap) (hbl : b < s.heap.size) (hAo : ∀ q, q < s.heap.size → ¬ A q) (hL : L ≤ 2049) (hS : va_S A s.heap H locs) (h0 : decode code pc = .ok (.aload_n 0, 1)) (h1 : decode code (pc + 1) = .ok (.iload 4, 2)) (h3 : decode code (pc + 3) = .ok (.iconst n0, 1)) (hj : Int32.ofInt n0 = nI j) (h4 : decode code (pc + 4) = .ok (.iadd, 1)) (h5 : decode code (pc + 5) = .ok (.iaload, 1)) (hij : i + j < L) (hl : lv_has ls 7 lv) (hl0 : lv[o4 + 4]? = some (0, .ref b)) (hl4 : lv[o4]? = some (4, .int (nI i)))
    (kk : W p l e R s m args below meth c H locs cells slots Q (F0 m (pc + 6) ls (.int (xs (i + j)) :: rest))) : W p l e R s m args below meth c H locs cells slots Q (F0 m pc ls rest) := by
  obtain ⟨hx, hb, -⟩ := id C
  refine lv_aload_n hx hb h0 rfl (lv_at hl _ hl0) ?_
  refine lv_iload hx hb h1 (lv_at hl _ hl4) ?_
  refine lv_iconst (v := nI j) hx hb h3 hj ?_
  refine pb_add hx hb h4 ?_
  refine va_sld hx hb hX hbl (hAo b hbl) hS (vp_in_nI hij (by omega)) h5 ?_
  rw [nI_clamp (by omega)]
  exact kk
variable {a ra : Nat → Nat} {n : Nat} {a' : Nat → Nat} {ot b i L : Nat} {xs : Nat → Int32}
/-- the next round -/
def lw_N (p : Program) (l : Launch) (e : Env) (R : Room) (s : State) (m : MethodId) (args : Array Value) (below : List Frame) (meth : Method) (c : Code) (Q : State → Prop) (D : va_G) (k : Nat → ClassId) (A : Nat → Prop) (a ra : Nat → Nat) (n : Nat) (a' : Nat → Nat) (ot b i cells slots : Nat) : Prop :=
  ∀ (fs op : Nat) (tn : Int32) (mn sz : Nat) (fd pg en bl pl wa : Nat → Nat) (M : Nat → Nat → Nat) (t mm th wr : Nat) (eb wh bf : Nat → Nat) (v : Nat → Int64) (H : Heap) (locs : List Loc) (ls : Array Slot), pb_L n fs op tn mn sz fd pg en bl pl wa M t mm wr eb wh bf → pb_W D A s.heap (lw_W a ra k n a' ot fs op tn mn sz fd pg en bl pl wa M t mm th wr eb wh bf v) H locs → lv_has ls 7 [(4, .int (nI i)), (3, .ref ot), (2, .ref (a' 0)), (1, .ref (a 0)), (0, .ref b)] → W p l e R s m args below meth c H locs cells slots Q (F0 m 455 ls [])
variable {fs op : Nat} {tn : Int32} {mn sz : Nat} {fd pg en bl pl wa : Nat → Nat} {M : Nat → Nat → Nat} {t mm th wr : Nat} {eb wh bf : Nat → Nat} {v : Nat → Int64}
set_option maxHeartbeats 4000000 in
theorem lw_c_feed (C : pb_C D k R_law2 code 7 15 10622 p R s m args c) (hRc : R.cells = 603072 ∧ R.slots = 7227120) (hcs : cells + 3 ≤ 603072 ∧ slots + 222 ≤ 7227120) (hA : ∀ q, s.heap.size ≤ q → A q) (hAo : ∀ q, q < s.heap.size → ¬ A q) (hX : va_X b L xs s s.heap) (hbl : b < s.heap.size) (hL : L ≤ 2049) (hi : i + 4 ≤ L) (hI : pb_L n fs op tn mn sz fd pg en bl pl wa M t mm wr eb wh bf) (hw : pb_W D A s.heap (lw_W a ra k n a' ot fs op tn mn sz fd pg en bl pl wa M t mm th wr eb wh bf v) H locs) (hl : lv_has ls 7 [(4, .int (nI i)), (3, .ref ot), (2, .ref (a' 0)), (1, .ref (a 0)), (0, .ref b)]) (kn : lw_N p l e R s m args below meth c Q D k A a ra n a' ot b i (cells + 3) (slots + 222)) : W p l e R s m args below meth c H locs cells slots Q (F0 m 112 ls []) := by
  obtain ⟨hx, hb, -⟩ := id C
  refine lv_aload_n hx hb d_Lw_law_112 rfl (lv_at hl 3 rfl) ?_
  refine lw_ld (j := 1) (o4 := 0) C hX hbl hAo hL hw.2.2 d_Lw_law_113 d_Lw_law_114 d_Lw_law_116 (by decide +kernel) d_Lw_law_117 d_Lw_law_118 (by omega) hl rfl rfl ?_
  refine pb_tI C hA (lw_toB hw) k_Bk_feed m_123 (c_Bk_feed l D a ra k n fs op tn mn sz fd pg en bl pl wa M (xs (i + 1)) H.size hI.2.2.2.1) rfl hl.1 0 0 rfl rfl rfl (by decide) ⟨by rw [hRc.1]; omega, by rw [hRc.2]; omega⟩ rfl (Nat.le_of_ble_eq_true rfl) d_Lw_law_119 (fun r1 u1 H1 locs1 hp1 hw1 => ?_)
  have hw1 := lw_ofB hw1
  refine lv_aload_n hx hb d_Lw_law_122 rfl (lv_at hl 2 rfl) ?_
  refine lw_ld (j := 1) (o4 := 0) C hX hbl hAo hL hw1.2.2 d_Lw_law_123 d_Lw_law_124 d_Lw_law_126 (by decide +kernel) d_Lw_law_127 d_Lw_law_128 (by omega) hl rfl rfl ?_
  refine pb_tI C hA (pb_perm2 hw1) k_Md_feed m_341 (c_Md_feed l D a' k n op t mm th fs wr eb fd wh bf M (xs (i + 1)) H1.size hI.2.2.2.1) rfl hl.1 0 2 rfl rfl rfl (by decide) ⟨by rw [hRc.1]; omega, by rw [hRc.2]; omega⟩ rfl (Nat.le_of_ble_eq_true rfl) d_Lw_law_129 (fun r2 u2 H2 locs2 hp2 hw2 => ?_)
  have hw2 := pb_perm2 hw2
  refine lv_icmp_eq (tgt := 455) hx hb d_Lw_law_132 (by decide) (fun hr => ?_) (fun hr => absurd ((pb_feed_det hp1 hp2).1) hr)
  obtain rfl := (pb_feed_det hp1 hp2).2
  rcases hp1 with ⟨-, -, rfl⟩ | ⟨w, hv, -, hs, -, rfl⟩
  · refine W.widen (k := cells + 3) (n := slots + 222) (by omega) (by omega) ?_
    have hw3 : pb_W D A s.heap (lw_W a ra k n a' ot fs op tn mn sz fd pg en bl pl wa M t mm 0 wr eb wh bf v) H2 locs2 := hw2
    exact kn fs op tn mn sz fd pg en bl pl wa M t mm 0 wr eb wh bf v H2 locs2 ls (hI) hw3 hl
  · refine W.widen (k := cells + 3) (n := slots + 222) (by omega) (by omega) ?_
    have hw3 : pb_W D A s.heap (lw_W a ra k n a' ot (fs + 1) op tn mn sz (va_up fd fs w) pg en bl pl wa M t mm 0 wr eb wh bf v) H2 locs2 := hw2
    exact kn (fs + 1) op tn mn sz (va_up fd fs w) pg en bl pl wa M t mm 0 wr eb wh bf v H2 locs2 ls (hI.feed hs hv) hw3 hl
set_option maxHeartbeats 4000000 in
theorem lw_c_put (C : pb_C D k R_law2 code 7 15 10622 p R s m args c) (hRc : R.cells = 603072 ∧ R.slots = 7227120) (hcs : cells + 3 ≤ 603072 ∧ slots + 222 ≤ 7227120) (hA : ∀ q, s.heap.size ≤ q → A q) (hAo : ∀ q, q < s.heap.size → ¬ A q) (hX : va_X b L xs s s.heap) (hbl : b < s.heap.size) (hL : L ≤ 2049) (hi : i + 4 ≤ L) (hI : pb_L n fs op tn mn sz fd pg en bl pl wa M t mm wr eb wh bf) (hw : pb_W D A s.heap (lw_W a ra k n a' ot fs op tn mn sz fd pg en bl pl wa M t mm th wr eb wh bf v) H locs) (hl : lv_has ls 7 [(4, .int (nI i)), (3, .ref ot), (2, .ref (a' 0)), (1, .ref (a 0)), (0, .ref b)]) (kn : lw_N p l e R s m args below meth c Q D k A a ra n a' ot b i (cells + 3) (slots + 222)) : W p l e R s m args below meth c H locs cells slots Q (F0 m 137 ls []) := by
  obtain ⟨hx, hb, -⟩ := id C
  refine lv_aload_n hx hb d_Lw_law_137 rfl (lv_at hl 3 rfl) ?_
  refine lw_ld (j := 1) (o4 := 0) C hX hbl hAo hL hw.2.2 d_Lw_law_138 d_Lw_law_139 d_Lw_law_141 (by decide +kernel) d_Lw_law_142 d_Lw_law_143 (by omega) hl rfl rfl ?_
  refine pb_tI C hA (lw_toB hw) k_Bk_put m_127 (c_Bk_put l D a ra k n fs op tn mn sz fd pg en bl pl wa M t (xs (i + 1)) H.size hI.1 hI.2.1 hI.2.2.1 hI.2.2.2.1 hI.2.2.2.2.1 hI.2.2.2.2.2.1 hI.2.2.2.2.2.2.1 hI.ho) rfl hl.1 0 0 rfl rfl rfl (by decide) ⟨by rw [hRc.1]; omega, by rw [hRc.2]; omega⟩ rfl (Nat.le_of_ble_eq_true rfl) d_Lw_law_144 (fun r1 u1 H1 locs1 hp1 hw1 => ?_)
  have hw1 := lw_ofB hw1
  refine lv_aload_n hx hb d_Lw_law_147 rfl (lv_at hl 2 rfl) ?_
  refine lw_ld (j := 1) (o4 := 0) C hX hbl hAo hL hw1.2.2 d_Lw_law_148 d_Lw_law_149 d_Lw_law_151 (by decide +kernel) d_Lw_law_152 d_Lw_law_153 (by omega) hl rfl rfl ?_
  refine pb_tI C hA (pb_perm2 hw1) k_Md_put m_345 (c_Md_put l D a' k n op t mm th fs wr eb fd wh bf M en bl pl wa (xs (i + 1)) H1.size hI.1 hI.2.1 hI.2.2.1 hI.2.2.2.1 hI.2.2.2.2.1 hI.2.2.2.2.2.2.1 hI.hm) rfl hl.1 0 2 rfl rfl rfl (by decide) ⟨by rw [hRc.1]; omega, by rw [hRc.2]; omega⟩ rfl (Nat.le_of_ble_eq_true rfl) d_Lw_law_154 (fun r2 u2 H2 locs2 hp2 hw2 => ?_)
  have hw2 := pb_perm2 hw2
  refine lv_icmp_eq (tgt := 455) hx hb d_Lw_law_157 (by decide) (fun hr => ?_) (fun hr => absurd ((pb_puts_det hI.emm hp1.1 hp2).1) hr)
  have hz := (pb_puts_det hI.emm hp1.1 hp2).2
  obtain ⟨z1, pg1⟩ := u1
  obtain rfl : z1 = u2 := hz
  obtain ⟨hp1, hpg⟩ := hp1
  rcases hp1 with ⟨-, -, rfl⟩ | ⟨ho, -, w, hv, -, ⟨q, -, -, -, -, rfl⟩ | ⟨-, -, -, rfl⟩ | ⟨-, hmn, b2, hfr, -, rfl⟩⟩
  · refine W.widen (k := cells + 3) (n := slots + 222) (by omega) (by omega) ?_
    have hw3 : pb_W D A s.heap (lw_W a ra k n a' ot fs op tn mn sz fd pg1 en bl pl wa M t mm 0 wr eb wh bf v) H2 locs2 := hw2
    exact kn fs op tn mn sz fd pg1 en bl pl wa M t mm 0 wr eb wh bf v H2 locs2 ls (hI.page hpg) hw3 hl
  · refine W.widen (k := cells + 3) (n := slots + 222) (by omega) (by omega) ?_
    have hw3 : pb_W D A s.heap (lw_W a ra k n a' ot 0 op tn mn sz fd pg1 en bl pl wa M t mm 0 wr eb wh bf v) H2 locs2 := hw2
    exact kn 0 op tn mn sz fd pg1 en bl pl wa M t mm 0 wr eb wh bf v H2 locs2 ls (hI.empty hpg) hw3 hl
  · refine W.widen (k := cells + 3) (n := slots + 222) (by omega) (by omega) ?_
    have hw3 : pb_W D A s.heap (lw_W a ra k n a' ot fs op tn mn sz fd pg1 en bl pl wa M t mm 0 wr eb wh bf v) H2 locs2 := hw2
    exact kn fs op tn mn sz fd pg1 en bl pl wa M t mm 0 wr eb wh bf v H2 locs2 ls (hI.page hpg) hw3 hl
  · have hmm : mn = mm := (hI.emm ho).symm
    subst hmm
    refine W.widen (k := cells + 3) (n := slots + 222) (by omega) (by omega) ?_
    have hw3 : pb_W D A s.heap (lw_W a ra k n a' ot 0 op (nI (3 - t)) (mn + 1) 129 fd pg1 (va_up en mn b2) (pb_turnb (pb_fill bl 0 64 (fun _ => b2)) 64 t) (pb_turnp (pb_fill pl 0 64 (fun j => j)) 64) (pb_turnw (pb_fill wa 0 64 (fun j => M b2 j)) (pb_rowf M b2 64 (pb_pe w fs fd)) 64 t (pb_pr mn en b2)) (pb_turnM (pb_rowf M b2 64 (pb_pe w fs fd)) t (pb_pr mn en b2)) (3 - t) (mn + 1) 0 129 (va_up eb mn b2) (pb_turnh (pb_fill wh 0 64 (fun j => 64 * b2 + j)) 64 t) (pb_turnw (pb_fill bf 0 64 (fun j => M b2 j)) (pb_rowf M b2 64 (pb_pe w fs fd)) 64 t (pb_pr mn en b2)) v) H2 locs2 := hw2
    exact kn 0 op (nI (3 - t)) (mn + 1) 129 fd pg1 (va_up en mn b2) (pb_turnb (pb_fill bl 0 64 (fun _ => b2)) 64 t) (pb_turnp (pb_fill pl 0 64 (fun j => j)) 64) (pb_turnw (pb_fill wa 0 64 (fun j => M b2 j)) (pb_rowf M b2 64 (pb_pe w fs fd)) 64 t (pb_pr mn en b2)) (pb_turnM (pb_rowf M b2 64 (pb_pe w fs fd)) t (pb_pr mn en b2)) (3 - t) (mn + 1) 0 129 (va_up eb mn b2) (pb_turnh (pb_fill wh 0 64 (fun j => 64 * b2 + j)) 64 t) (pb_turnw (pb_fill bf 0 64 (fun j => M b2 j)) (pb_rowf M b2 64 (pb_pe w fs fd)) 64 t (pb_pr mn en b2)) v H2 locs2 ls (hI.put ho hv hmn hfr.1 hfr.2.1 hpg) hw3 hl
set_option maxHeartbeats 4000000 in
theorem lw_c_find (C : pb_C D k R_law2 code 7 15 10622 p R s m args c) (hRc : R.cells = 603072 ∧ R.slots = 7227120) (hcs : cells + 3 ≤ 603072 ∧ slots + 222 ≤ 7227120) (hA : ∀ q, s.heap.size ≤ q → A q) (hAo : ∀ q, q < s.heap.size → ¬ A q) (hX : va_X b L xs s s.heap) (hbl : b < s.heap.size) (hL : L ≤ 2049) (hi : i + 4 ≤ L) (hI : pb_L n fs op tn mn sz fd pg en bl pl wa M t mm wr eb wh bf) (hw : pb_W D A s.heap (lw_W a ra k n a' ot fs op tn mn sz fd pg en bl pl wa M t mm th wr eb wh bf v) H locs) (hl : lv_has ls 7 [(4, .int (nI i)), (3, .ref ot), (2, .ref (a' 0)), (1, .ref (a 0)), (0, .ref b)]) (kn : lw_N p l e R s m args below meth c Q D k A a ra n a' ot b i (cells + 3) (slots + 222)) : W p l e R s m args below meth c H locs cells slots Q (F0 m 162 ls []) := by
  obtain ⟨hx, hb, -⟩ := id C
  refine lv_aload_n hx hb d_Lw_law_162 rfl (lv_at hl 3 rfl) ?_
  refine lw_ld (j := 1) (o4 := 0) C hX hbl hAo hL hw.2.2 d_Lw_law_163 d_Lw_law_164 d_Lw_law_166 (by decide +kernel) d_Lw_law_167 d_Lw_law_168 (by omega) hl rfl rfl ?_
  refine lw_ld (j := 2) (o4 := 0) C hX hbl hAo hL hw.2.2 d_Lw_law_169 d_Lw_law_170 d_Lw_law_172 (by decide +kernel) d_Lw_law_173 d_Lw_law_174 (by omega) hl rfl rfl ?_
  refine pb_vR C (pb_tail (lw_toB hw) hA).1 k_Bk_find m_153 (c_Bk_find l D a ra k n fs op tn mn sz fd pg en bl pl wa M t (xs (i + 1)) (xs (i + 2)) hI.1 hI.2.1 hI.2.2.1 hI.2.2.2.2.2.2.1 hI.ho) rfl hl.1 0 0 rfl rfl rfl (by decide) ⟨by rw [hRc.1]; omega, by rw [hRc.2]; omega⟩ rfl (Nat.le_of_ble_eq_true rfl) d_Lw_law_175 (fun r1 hp1 => ?_)
  refine lv_aload_n hx hb d_Lw_law_178 rfl (lv_at hl 2 rfl) ?_
  refine lw_ld (j := 1) (o4 := 0) C hX hbl hAo hL hw.2.2 d_Lw_law_179 d_Lw_law_180 d_Lw_law_182 (by decide +kernel) d_Lw_law_183 d_Lw_law_184 (by omega) hl rfl rfl ?_
  refine lw_ld (j := 2) (o4 := 0) C hX hbl hAo hL hw.2.2 d_Lw_law_185 d_Lw_law_186 d_Lw_law_188 (by decide +kernel) d_Lw_law_189 d_Lw_law_190 (by omega) hl rfl rfl ?_
  refine pb_tI C hA (pb_perm2 hw) k_Md_find m_378 (c_Md_find l D a' k n op t mm th fs wr eb fd wh bf M en bl pl wa (xs (i + 1)) (xs (i + 2)) H.size hI.1 hI.2.1 hI.2.2.1 hI.2.2.2.2.2.2.1 hI.hm) rfl hl.1 0 2 rfl rfl rfl (by decide) ⟨by rw [hRc.1]; omega, by rw [hRc.2]; omega⟩ rfl (Nat.le_of_ble_eq_true rfl) d_Lw_law_191 (fun r2 u2 H2 locs2 hp2 hw2 => ?_)
  have hw2 := pb_perm2 hw2
  refine lv_icmp_eq (tgt := 455) hx hb d_Lw_law_194 (by decide) (fun hr => ?_) (fun hr => absurd (pb_finds_det hI.2.2.1 hI.emm hp1 hp2) hr)
  refine W.widen (k := cells + 3) (n := slots + 222) (by omega) (by omega) ?_
  have hw3 : pb_W D A s.heap (lw_W a ra k n a' ot fs op tn mn sz fd pg en bl pl wa M t mm 0 wr eb wh bf v) H2 locs2 := hw2
  exact kn fs op tn mn sz fd pg en bl pl wa M t mm 0 wr eb wh bf v H2 locs2 ls (hI) hw3 hl
set_option maxHeartbeats 4000000 in
theorem lw_c_entry (C : pb_C D k R_law2 code 7 15 10622 p R s m args c) (hRc : R.cells = 603072 ∧ R.slots = 7227120) (hcs : cells + 3 ≤ 603072 ∧ slots + 222 ≤ 7227120) (hA : ∀ q, s.heap.size ≤ q → A q) (hAo : ∀ q, q < s.heap.size → ¬ A q) (hX : va_X b L xs s s.heap) (hbl : b < s.heap.size) (hL : L ≤ 2049) (hi : i + 4 ≤ L) (hI : pb_L n fs op tn mn sz fd pg en bl pl wa M t mm wr eb wh bf) (hw : pb_W D A s.heap (lw_W a ra k n a' ot fs op tn mn sz fd pg en bl pl wa M t mm th wr eb wh bf v) H locs) (hl : lv_has ls 7 [(4, .int (nI i)), (3, .ref ot), (2, .ref (a' 0)), (1, .ref (a 0)), (0, .ref b)]) (kn : lw_N p l e R s m args below meth c Q D k A a ra n a' ot b i (cells + 3) (slots + 222)) : W p l e R s m args below meth c H locs cells slots Q (F0 m 199 ls []) := by
  obtain ⟨hx, hb, -⟩ := id C
  refine lv_aload_n hx hb d_Lw_law_199 rfl (lv_at hl 3 rfl) ?_
  refine lw_ld (j := 1) (o4 := 0) C hX hbl hAo hL hw.2.2 d_Lw_law_200 d_Lw_law_201 d_Lw_law_203 (by decide +kernel) d_Lw_law_204 d_Lw_law_205 (by omega) hl rfl rfl ?_
  refine lw_ld (j := 2) (o4 := 0) C hX hbl hAo hL hw.2.2 d_Lw_law_206 d_Lw_law_207 d_Lw_law_209 (by decide +kernel) d_Lw_law_210 d_Lw_law_211 (by omega) hl rfl rfl ?_
  refine pb_vR C (pb_tail (lw_toB hw) hA).1 k_Bk_entry m_161 (c_Bk_entry l D a ra k n fs op tn mn sz fd pg en bl pl wa M t (xs (i + 1)) (xs (i + 2)) hI.1 hI.2.1 hI.2.2.1 hI.2.2.2.2.2.2.1 hI.ho) rfl hl.1 0 0 rfl rfl rfl (by decide) ⟨by rw [hRc.1]; omega, by rw [hRc.2]; omega⟩ rfl (Nat.le_of_ble_eq_true rfl) d_Lw_law_212 (fun r1 hp1 => ?_)
  refine lv_aload_n hx hb d_Lw_law_215 rfl (lv_at hl 2 rfl) ?_
  refine lw_ld (j := 1) (o4 := 0) C hX hbl hAo hL hw.2.2 d_Lw_law_216 d_Lw_law_217 d_Lw_law_219 (by decide +kernel) d_Lw_law_220 d_Lw_law_221 (by omega) hl rfl rfl ?_
  refine lw_ld (j := 2) (o4 := 0) C hX hbl hAo hL hw.2.2 d_Lw_law_222 d_Lw_law_223 d_Lw_law_225 (by decide +kernel) d_Lw_law_226 d_Lw_law_227 (by omega) hl rfl rfl ?_
  refine pb_tI C hA (pb_perm2 hw) k_Md_entry m_386 (c_Md_entry l D a' k n op t mm th fs wr eb fd wh bf M en bl pl wa (xs (i + 1)) (xs (i + 2)) H.size hI.1 hI.2.1 hI.2.2.1 hI.2.2.2.2.2.2.1 hI.hm) rfl hl.1 0 2 rfl rfl rfl (by decide) ⟨by rw [hRc.1]; omega, by rw [hRc.2]; omega⟩ rfl (Nat.le_of_ble_eq_true rfl) d_Lw_law_228 (fun r2 u2 H2 locs2 hp2 hw2 => ?_)
  have hw2 := pb_perm2 hw2
  refine lv_icmp_eq (tgt := 455) hx hb d_Lw_law_231 (by decide) (fun hr => ?_) (fun hr => absurd (pb_entrys_det hI.ml hI.emm hp1 hp2) hr)
  refine W.widen (k := cells + 3) (n := slots + 222) (by omega) (by omega) ?_
  have hw3 : pb_W D A s.heap (lw_W a ra k n a' ot fs op tn mn sz fd pg en bl pl wa M t mm 0 wr eb wh bf v) H2 locs2 := hw2
  exact kn fs op tn mn sz fd pg en bl pl wa M t mm 0 wr eb wh bf v H2 locs2 ls (hI) hw3 hl
set_option maxHeartbeats 4000000 in
theorem lw_c_drop (C : pb_C D k R_law2 code 7 15 10622 p R s m args c) (hRc : R.cells = 603072 ∧ R.slots = 7227120) (hcs : cells + 3 ≤ 603072 ∧ slots + 222 ≤ 7227120) (hA : ∀ q, s.heap.size ≤ q → A q) (hAo : ∀ q, q < s.heap.size → ¬ A q) (hX : va_X b L xs s s.heap) (hbl : b < s.heap.size) (hL : L ≤ 2049) (hi : i + 4 ≤ L) (hI : pb_L n fs op tn mn sz fd pg en bl pl wa M t mm wr eb wh bf) (hw : pb_W D A s.heap (lw_W a ra k n a' ot fs op tn mn sz fd pg en bl pl wa M t mm th wr eb wh bf v) H locs) (hl : lv_has ls 7 [(4, .int (nI i)), (3, .ref ot), (2, .ref (a' 0)), (1, .ref (a 0)), (0, .ref b)]) (kn : lw_N p l e R s m args below meth c Q D k A a ra n a' ot b i (cells + 3) (slots + 222)) : W p l e R s m args below meth c H locs cells slots Q (F0 m 236 ls []) := by
  obtain ⟨hx, hb, -⟩ := id C
  refine lv_aload_n hx hb d_Lw_law_236 rfl (lv_at hl 3 rfl) ?_
  refine lw_ld (j := 1) (o4 := 0) C hX hbl hAo hL hw.2.2 d_Lw_law_237 d_Lw_law_238 d_Lw_law_240 (by decide +kernel) d_Lw_law_241 d_Lw_law_242 (by omega) hl rfl rfl ?_
  refine pb_tI C hA (lw_toB hw) k_Bk_drop m_165 (c_Bk_drop l D a ra k n fs op tn mn sz fd pg en bl pl wa M t (xs (i + 1)) H.size hI.1 hI.2.1 hI.2.2.1 hI.2.2.2.2.2.1 hI.2.2.2.2.2.2.1 hI.ho) rfl hl.1 0 0 rfl rfl rfl (by decide) ⟨by rw [hRc.1]; omega, by rw [hRc.2]; omega⟩ rfl (Nat.le_of_ble_eq_true rfl) d_Lw_law_243 (fun r1 u1 H1 locs1 hp1 hw1 => ?_)
  have hw1 := lw_ofB hw1
  refine lv_aload_n hx hb d_Lw_law_246 rfl (lv_at hl 2 rfl) ?_
  refine lw_ld (j := 1) (o4 := 0) C hX hbl hAo hL hw1.2.2 d_Lw_law_247 d_Lw_law_248 d_Lw_law_250 (by decide +kernel) d_Lw_law_251 d_Lw_law_252 (by omega) hl rfl rfl ?_
  refine pb_tI C hA (pb_perm2 hw1) k_Md_drop m_374 (c_Md_drop l D a' k n op t mm th fs wr eb fd wh bf M en bl pl wa (xs (i + 1)) H1.size hI.1 hI.2.1 hI.2.2.1 hI.2.2.2.2.2.2.1 hI.hm) rfl hl.1 0 2 rfl rfl rfl (by decide) ⟨by rw [hRc.1]; omega, by rw [hRc.2]; omega⟩ rfl (Nat.le_of_ble_eq_true rfl) d_Lw_law_253 (fun r2 u2 H2 locs2 hp2 hw2 => ?_)
  have hw2 := pb_perm2 hw2
  refine lv_icmp_eq (tgt := 455) hx hb d_Lw_law_256 (by decide) (fun hr => ?_) (fun hr => absurd ((pb_drops_det hI.ml hI.emm hp1.1 hp2).1) hr)
  have hz := (pb_drops_det hI.ml hI.emm hp1.1 hp2).2
  obtain ⟨z1, pg1⟩ := u1
  obtain rfl : z1 = u2 := hz
  obtain ⟨hp1, hpg⟩ := hp1
  rcases hp1 with ⟨-, -, rfl⟩ | ⟨ho, q, hq, -, -, rfl⟩
  · refine W.widen (k := cells + 3) (n := slots + 222) (by omega) (by omega) ?_
    have hw3 : pb_W D A s.heap (lw_W a ra k n a' ot fs op tn mn sz fd pg1 en bl pl wa M t mm 0 wr eb wh bf v) H2 locs2 := hw2
    exact kn fs op tn mn sz fd pg1 en bl pl wa M t mm 0 wr eb wh bf v H2 locs2 ls (hI.page hpg) hw3 hl
  · have hmm : mn = mm := (hI.emm ho).symm
    subst hmm
    refine W.widen (k := cells + 3) (n := slots + 222) (by omega) (by omega) ?_
    have hw3 : pb_W D A s.heap (lw_W a ra k n a' ot fs op (nI (3 - t)) (mn - 1) 65 fd pg1 (pb_gone en q mn) (pb_turnb bl 0 t) (pb_turnp pl 0) (pb_turnw wa M 0 t (pb_seal (pb_root mn en q))) (pb_turnM M t (pb_seal (pb_root mn en q))) (3 - t) (mn - 1) 0 65 (pb_gone eb q mn) (pb_turnh wh 0 t) (pb_turnw bf M 0 t (pb_seal (pb_root mn en q))) v) H2 locs2 := hw2
    exact kn fs op (nI (3 - t)) (mn - 1) 65 fd pg1 (pb_gone en q mn) (pb_turnb bl 0 t) (pb_turnp pl 0) (pb_turnw wa M 0 t (pb_seal (pb_root mn en q))) (pb_turnM M t (pb_seal (pb_root mn en q))) (3 - t) (mn - 1) 0 65 (pb_gone eb q mn) (pb_turnh wh 0 t) (pb_turnw bf M 0 t (pb_seal (pb_root mn en q))) v H2 locs2 ls (hI.drop ho hq hpg) hw3 hl
set_option maxHeartbeats 4000000 in
theorem lw_c_crash (C : pb_C D k R_law2 code 7 15 10622 p R s m args c) (hRc : R.cells = 603072 ∧ R.slots = 7227120) (hcs : cells + 3 ≤ 603072 ∧ slots + 222 ≤ 7227120) (hA : ∀ q, s.heap.size ≤ q → A q) (hAo : ∀ q, q < s.heap.size → ¬ A q) (hX : va_X b L xs s s.heap) (hbl : b < s.heap.size) (hL : L ≤ 2049) (hi : i + 4 ≤ L) (hI : pb_L n fs op tn mn sz fd pg en bl pl wa M t mm wr eb wh bf) (hw : pb_W D A s.heap (lw_W a ra k n a' ot fs op tn mn sz fd pg en bl pl wa M t mm th wr eb wh bf v) H locs) (hl : lv_has ls 7 [(4, .int (nI i)), (3, .ref ot), (2, .ref (a' 0)), (1, .ref (a 0)), (0, .ref b)]) (kn : lw_N p l e R s m args below meth c Q D k A a ra n a' ot b i (cells + 3) (slots + 222)) : W p l e R s m args below meth c H locs cells slots Q (F0 m 261 ls []) := by
  obtain ⟨hx, hb, -⟩ := id C
  refine lv_aload_n hx hb d_Lw_law_261 rfl (lv_at hl 3 rfl) ?_
  refine lw_ld (j := 1) (o4 := 0) C hX hbl hAo hL hw.2.2 d_Lw_law_262 d_Lw_law_263 d_Lw_law_265 (by decide +kernel) d_Lw_law_266 d_Lw_law_267 (by omega) hl rfl rfl ?_
  refine pb_tI C hA (lw_toB hw) k_Bk_crash m_169 (c_Bk_crash l D a ra k n fs op tn mn sz fd pg en bl pl wa M t (xs (i + 1)) H.size hI.1 hI.2.1 hI.2.2.1 hI.2.2.2.2.2.2.1 hI.ho) rfl hl.1 0 0 rfl rfl rfl (by decide) ⟨by rw [hRc.1]; omega, by rw [hRc.2]; omega⟩ rfl (Nat.le_of_ble_eq_true rfl) d_Lw_law_268 (fun r1 u1 H1 locs1 hp1 hw1 => ?_)
  have hw1 := lw_ofB hw1
  refine lv_aload_n hx hb d_Lw_law_271 rfl (lv_at hl 2 rfl) ?_
  refine lw_ld (j := 1) (o4 := 0) C hX hbl hAo hL hw1.2.2 d_Lw_law_272 d_Lw_law_273 d_Lw_law_275 (by decide +kernel) d_Lw_law_276 d_Lw_law_277 (by omega) hl rfl rfl ?_
  refine pb_tI C hA (pb_perm2 hw1) k_Md_crash m_390 (c_Md_crash l D a' k n op t mm th fs wr eb fd wh bf M en bl pl wa (xs (i + 1)) H1.size hI.1 hI.2.1 hI.2.2.1 hI.2.2.2.2.2.2.1 hI.hm) rfl hl.1 0 2 rfl rfl rfl (by decide) ⟨by rw [hRc.1]; omega, by rw [hRc.2]; omega⟩ rfl (Nat.le_of_ble_eq_true rfl) d_Lw_law_278 (fun r2 u2 H2 locs2 hp2 hw2 => ?_)
  have hw2 := pb_perm2 hw2
  refine lv_icmp_eq (tgt := 455) hx hb d_Lw_law_281 (by decide) (fun hr => ?_) (fun hr => absurd ((pb_crashs_det hI.sl hI.ewr hp1 hp2).1) hr)
  obtain rfl := (pb_crashs_det hI.sl hI.ewr hp1 hp2).2
  rcases hp1 with ⟨-, -, rfl⟩ | ⟨ho, -, q, hq, -, -, rfl⟩
  · refine W.widen (k := cells + 3) (n := slots + 222) (by omega) (by omega) ?_
    have hw3 : pb_W D A s.heap (lw_W a ra k n a' ot fs op tn mn sz fd pg en bl pl wa M t mm 0 wr eb wh bf v) H2 locs2 := hw2
    exact kn fs op tn mn sz fd pg en bl pl wa M t mm 0 wr eb wh bf v H2 locs2 ls (hI) hw3 hl
  · have hwr : sz = wr := (hI.ewr ho).symm
    subst hwr
    refine W.widen (k := cells + 3) (n := slots + 222) (by omega) (by omega) ?_
    have hw3 : pb_W D A s.heap (lw_W a ra k n a' ot fs 0 tn mn 0 fd pg en bl pl wa (pb_back bl pl wa q (sz - q) M) t mm 0 sz eb wh bf v) H2 locs2 := hw2
    exact kn fs 0 tn mn 0 fd pg en bl pl wa (pb_back bl pl wa q (sz - q) M) t mm 0 sz eb wh bf v H2 locs2 ls (hI.crash ho hq) hw3 hl
set_option maxHeartbeats 4000000 in
theorem lw_c_reopen (C : pb_C D k R_law2 code 7 15 10622 p R s m args c) (hRc : R.cells = 603072 ∧ R.slots = 7227120) (hcs : cells + 3 ≤ 603072 ∧ slots + 222 ≤ 7227120) (hA : ∀ q, s.heap.size ≤ q → A q) (hAo : ∀ q, q < s.heap.size → ¬ A q) (hX : va_X b L xs s s.heap) (hbl : b < s.heap.size) (hL : L ≤ 2049) (hi : i + 4 ≤ L) (hI : pb_L n fs op tn mn sz fd pg en bl pl wa M t mm wr eb wh bf) (hw : pb_W D A s.heap (lw_W a ra k n a' ot fs op tn mn sz fd pg en bl pl wa M t mm th wr eb wh bf v) H locs) (hl : lv_has ls 7 [(4, .int (nI i)), (3, .ref ot), (2, .ref (a' 0)), (1, .ref (a 0)), (0, .ref b)]) (kn : lw_N p l e R s m args below meth c Q D k A a ra n a' ot b i (cells + 3) (slots + 222)) : W p l e R s m args below meth c H locs cells slots Q (F0 m 286 ls []) := by
  obtain ⟨hx, hb, -⟩ := id C
  refine lv_aload_n hx hb d_Lw_law_286 rfl (lv_at hl 3 rfl) ?_
  refine pb_tI C hA (lw_toB hw) k_Bk_reopen m_177 (c_Bk_reopen l D a ra k n fs op tn mn sz fd pg en bl pl wa M H.size hI.1 hI.2.1 hI.2.2.1) rfl hl.1 0 0 rfl rfl rfl (by decide) ⟨by rw [hRc.1]; omega, by rw [hRc.2]; omega⟩ rfl (Nat.le_of_ble_eq_true rfl) d_Lw_law_287 (fun r1 u1 H1 locs1 hp1 hw1 => ?_)
  have hw1 := lw_ofB hw1
  refine lv_aload_n hx hb d_Lw_law_290 rfl (lv_at hl 2 rfl) ?_
  refine pb_tI C hA (pb_perm2 hw1) k_Md_reopen m_394 (c_Md_reopen l D a' k n op t mm th fs wr eb fd wh bf M H1.size hI.1 hI.2.1 hI.2.2.1) rfl hl.1 0 2 rfl rfl rfl (by decide) ⟨by rw [hRc.1]; omega, by rw [hRc.2]; omega⟩ rfl (Nat.le_of_ble_eq_true rfl) d_Lw_law_291 (fun r2 u2 H2 locs2 hp2 hw2 => ?_)
  have hw2 := pb_perm2 hw2
  refine lv_icmp_eq (tgt := 455) hx hb d_Lw_law_294 (by decide) (fun hr => ?_) (fun hr => absurd ((pb_reops_det hp1.1 hp2).1) hr)
  have hz := (pb_reops_det hp1.1 hp2).2
  obtain ⟨z1, tn1, mn1, en1⟩ := u1
  obtain rfl : z1 = u2 := hz
  obtain ⟨hp1, hop⟩ := hp1
  rcases pb_reops_z hp1 with rfl | ⟨rfl, h1, h2⟩
  · refine W.widen (k := cells + 3) (n := slots + 222) (by omega) (by omega) ?_
    have hw3 : pb_W D A s.heap (lw_W a ra k n a' ot fs 0 tn1 mn1 0 fd pg en1 bl pl wa M t mm 0 0 eb wh bf v) H2 locs2 := hw2
    exact kn fs 0 tn1 mn1 0 fd pg en1 bl pl wa M t mm 0 0 eb wh bf v H2 locs2 ls (hI.shut) hw3 hl
  · obtain ⟨e1, e2, e3⟩ := hop rfl
    obtain rfl : tn1 = nI (M 0 0) := e1
    obtain rfl : mn1 = M (M 0 0) 0 := e2
    refine W.widen (k := cells + 3) (n := slots + 222) (by omega) (by omega) ?_
    have hw3 : pb_W D A s.heap (lw_W a ra k n a' ot fs 1 (nI (M 0 0)) (M (M 0 0) 0) 0 fd pg en1 bl pl wa M (M 0 0) (M (M 0 0) 0) 0 0 (pb_fill eb 0 (M (M 0 0) 0) (fun j => M (M 0 0) (1 + j))) wh bf v) H2 locs2 := hw2
    exact kn fs 1 (nI (M 0 0)) (M (M 0 0) 0) 0 fd pg en1 bl pl wa M (M 0 0) (M (M 0 0) 0) 0 0 (pb_fill eb 0 (M (M 0 0) 0) (fun j => M (M 0 0) (1 + j))) wh bf v H2 locs2 ls (hI.unshut h1 h2 e3) hw3 hl
set_option maxHeartbeats 4000000 in
theorem lw_c_poke (C : pb_C D k R_law2 code 7 15 10622 p R s m args c) (hRc : R.cells = 603072 ∧ R.slots = 7227120) (hcs : cells + 3 ≤ 603072 ∧ slots + 222 ≤ 7227120) (hA : ∀ q, s.heap.size ≤ q → A q) (hAo : ∀ q, q < s.heap.size → ¬ A q) (hX : va_X b L xs s s.heap) (hbl : b < s.heap.size) (hL : L ≤ 2049) (hi : i + 4 ≤ L) (hI : pb_L n fs op tn mn sz fd pg en bl pl wa M t mm wr eb wh bf) (hw : pb_W D A s.heap (lw_W a ra k n a' ot fs op tn mn sz fd pg en bl pl wa M t mm th wr eb wh bf v) H locs) (hl : lv_has ls 7 [(4, .int (nI i)), (3, .ref ot), (2, .ref (a' 0)), (1, .ref (a 0)), (0, .ref b)]) (kn : lw_N p l e R s m args below meth c Q D k A a ra n a' ot b i (cells + 3) (slots + 222)) : W p l e R s m args below meth c H locs cells slots Q (F0 m 299 ls []) := by
  obtain ⟨hx, hb, -⟩ := id C
  refine lv_aload_n hx hb d_Lw_law_299 rfl (lv_at hl 3 rfl) ?_
  refine lw_ld (j := 1) (o4 := 0) C hX hbl hAo hL hw.2.2 d_Lw_law_300 d_Lw_law_301 d_Lw_law_303 (by decide +kernel) d_Lw_law_304 d_Lw_law_305 (by omega) hl rfl rfl ?_
  refine lw_ld (j := 2) (o4 := 0) C hX hbl hAo hL hw.2.2 d_Lw_law_306 d_Lw_law_307 d_Lw_law_309 (by decide +kernel) d_Lw_law_310 d_Lw_law_311 (by omega) hl rfl rfl ?_
  refine lw_ld (j := 3) (o4 := 0) C hX hbl hAo hL hw.2.2 d_Lw_law_312 d_Lw_law_313 d_Lw_law_315 (by decide +kernel) d_Lw_law_316 d_Lw_law_317 (by omega) hl rfl rfl ?_
  refine pb_tI C hA (lw_toB hw) k_Bk_poke m_178 (c_Bk_poke l D a ra k n fs op tn mn sz fd pg en bl pl wa M (xs (i + 1)) (xs (i + 2)) (xs (i + 3)) H.size hI.1 hI.2.1 hI.2.2.1) rfl hl.1 0 0 rfl rfl rfl (by decide) ⟨by rw [hRc.1]; omega, by rw [hRc.2]; omega⟩ rfl (Nat.le_of_ble_eq_true rfl) d_Lw_law_318 (fun r1 u1 H1 locs1 hp1 hw1 => ?_)
  have hw1 := lw_ofB hw1
  refine lv_aload_n hx hb d_Lw_law_321 rfl (lv_at hl 2 rfl) ?_
  refine lw_ld (j := 1) (o4 := 0) C hX hbl hAo hL hw1.2.2 d_Lw_law_322 d_Lw_law_323 d_Lw_law_325 (by decide +kernel) d_Lw_law_326 d_Lw_law_327 (by omega) hl rfl rfl ?_
  refine lw_ld (j := 2) (o4 := 0) C hX hbl hAo hL hw1.2.2 d_Lw_law_328 d_Lw_law_329 d_Lw_law_331 (by decide +kernel) d_Lw_law_332 d_Lw_law_333 (by omega) hl rfl rfl ?_
  refine lw_ld (j := 3) (o4 := 0) C hX hbl hAo hL hw1.2.2 d_Lw_law_334 d_Lw_law_335 d_Lw_law_337 (by decide +kernel) d_Lw_law_338 d_Lw_law_339 (by omega) hl rfl rfl ?_
  refine pb_tI C hA (pb_perm2 hw1) k_Md_poke m_410 (c_Md_poke l D a' k n op t mm th fs wr eb fd wh bf M (xs (i + 1)) (xs (i + 2)) (xs (i + 3)) H1.size hI.1 hI.2.1 hI.2.2.1) rfl hl.1 0 2 rfl rfl rfl (by decide) ⟨by rw [hRc.1]; omega, by rw [hRc.2]; omega⟩ rfl (Nat.le_of_ble_eq_true rfl) d_Lw_law_340 (fun r2 u2 H2 locs2 hp2 hw2 => ?_)
  have hw2 := pb_perm2 hw2
  refine lv_icmp_eq (tgt := 455) hx hb d_Lw_law_343 (by decide) (fun hr => ?_) (fun hr => absurd ((pb_pokes_det hI.1 hp1 hp2).1) hr)
  obtain rfl := (pb_pokes_det hI.1 hp1 hp2).2
  rcases hp1 with ⟨-, -, rfl⟩ | ⟨pb, pi, pv, -, -, -, hv, -, -, -, -, rfl⟩
  · refine W.widen (k := cells + 3) (n := slots + 222) (by omega) (by omega) ?_
    have hw3 : pb_W D A s.heap (lw_W a ra k n a' ot fs op tn mn sz fd pg en bl pl wa M t mm 0 wr eb wh bf v) H2 locs2 := hw2
    exact kn fs op tn mn sz fd pg en bl pl wa M t mm 0 wr eb wh bf v H2 locs2 ls (hI) hw3 hl
  · refine W.widen (k := cells + 3) (n := slots + 222) (by omega) (by omega) ?_
    have hw3 : pb_W D A s.heap (lw_W a ra k n a' ot fs op tn mn sz fd pg en bl pl wa (pb_put1 M pb pi (M pb pi ^^^ pv)) t mm 0 wr eb wh bf v) H2 locs2 := hw2
    exact kn fs op tn mn sz fd pg en bl pl wa (pb_put1 M pb pi (M pb pi ^^^ pv)) t mm 0 wr eb wh bf v H2 locs2 ls (hI.poke hv) hw3 hl
set_option maxHeartbeats 4000000 in
theorem lw_c_badAt (C : pb_C D k R_law2 code 7 15 10622 p R s m args c) (hRc : R.cells = 603072 ∧ R.slots = 7227120) (hcs : cells + 3 ≤ 603072 ∧ slots + 222 ≤ 7227120) (hA : ∀ q, s.heap.size ≤ q → A q) (hAo : ∀ q, q < s.heap.size → ¬ A q) (hX : va_X b L xs s s.heap) (hbl : b < s.heap.size) (hL : L ≤ 2049) (hi : i + 4 ≤ L) (hI : pb_L n fs op tn mn sz fd pg en bl pl wa M t mm wr eb wh bf) (hw : pb_W D A s.heap (lw_W a ra k n a' ot fs op tn mn sz fd pg en bl pl wa M t mm th wr eb wh bf v) H locs) (hl : lv_has ls 7 [(4, .int (nI i)), (3, .ref ot), (2, .ref (a' 0)), (1, .ref (a 0)), (0, .ref b)]) (kn : lw_N p l e R s m args below meth c Q D k A a ra n a' ot b i (cells + 3) (slots + 222)) : W p l e R s m args below meth c H locs cells slots Q (F0 m 348 ls []) := by
  obtain ⟨hx, hb, -⟩ := id C
  refine lv_aload_n hx hb d_Lw_law_348 rfl (lv_at hl 3 rfl) ?_
  refine pb_vR C (pb_tail (lw_toB hw) hA).1 k_Bk_badAt m_182 (c_Bk_badAt l D a ra k n fs op tn mn sz fd pg en bl pl wa M t hI.1 hI.2.1 hI.2.2.1 hI.2.2.2.2.2.2.1 hI.ho) rfl hl.1 0 0 rfl rfl rfl (by decide) ⟨by rw [hRc.1]; omega, by rw [hRc.2]; omega⟩ rfl (Nat.le_of_ble_eq_true rfl) d_Lw_law_349 (fun r1 hp1 => ?_)
  refine lv_aload_n hx hb d_Lw_law_352 rfl (lv_at hl 2 rfl) ?_
  refine pb_tI C hA (pb_perm2 hw) k_Md_badAt m_418 (c_Md_badAt l D a' k n op t mm th fs wr eb fd wh bf M en bl pl wa H.size hI.1 hI.2.1 hI.2.2.1 hI.2.2.2.2.2.2.1 hI.hm) rfl hl.1 0 2 rfl rfl rfl (by decide) ⟨by rw [hRc.1]; omega, by rw [hRc.2]; omega⟩ rfl (Nat.le_of_ble_eq_true rfl) d_Lw_law_353 (fun r2 u2 H2 locs2 hp2 hw2 => ?_)
  have hw2 := pb_perm2 hw2
  refine lv_icmp_eq (tgt := 455) hx hb d_Lw_law_356 (by decide) (fun hr => ?_) (fun hr => absurd (pb_bads_det hI.emm hp1 hp2) hr)
  refine W.widen (k := cells + 3) (n := slots + 222) (by omega) (by omega) ?_
  have hw3 : pb_W D A s.heap (lw_W a ra k n a' ot fs op tn mn sz fd pg en bl pl wa M t mm 0 wr eb wh bf v) H2 locs2 := hw2
  exact kn fs op tn mn sz fd pg en bl pl wa M t mm 0 wr eb wh bf v H2 locs2 ls (hI) hw3 hl
theorem pb_free2 {op n mn mm : Nat} {r r' : Int32} (hm : op = 1 → mm = mn) (h : (op = 0 ∧ r = -1) ∨ (op = 1 ∧ r = nI n - nI 3 - nI mn)) (h' : (op = 0 ∧ r' = -1) ∨ (op = 1 ∧ r' = nI n - nI 3 - nI mm)) : r = r' := by
  rcases h with ⟨h1, rfl⟩ | ⟨h1, rfl⟩ <;> rcases h' with ⟨h2, rfl⟩ | ⟨h2, rfl⟩
  · rfl
  · omega
  · omega
  · rw [hm h1]
theorem pb_root2 {op t : Nat} {r r' : Int32} (h : (op = 0 ∧ r = -1) ∨ (op = 1 ∧ r = nI t)) (h' : (op = 0 ∧ r' = -1) ∨ (op = 1 ∧ r' = nI t)) : r = r' := by
  rcases h with ⟨h1, rfl⟩ | ⟨h1, rfl⟩ <;> rcases h' with ⟨h2, rfl⟩ | ⟨h2, rfl⟩
  · rfl
  · omega
  · omega
  · rfl
set_option maxHeartbeats 4000000 in
theorem lw_c_free (C : pb_C D k R_law2 code 7 15 10622 p R s m args c) (hRc : R.cells = 603072 ∧ R.slots = 7227120) (hcs : cells + 3 ≤ 603072 ∧ slots + 222 ≤ 7227120) (hA : ∀ q, s.heap.size ≤ q → A q) (hAo : ∀ q, q < s.heap.size → ¬ A q) (hX : va_X b L xs s s.heap) (hbl : b < s.heap.size) (hL : L ≤ 2049) (hi : i + 4 ≤ L) (hI : pb_L n fs op tn mn sz fd pg en bl pl wa M t mm wr eb wh bf) (hw : pb_W D A s.heap (lw_W a ra k n a' ot fs op tn mn sz fd pg en bl pl wa M t mm th wr eb wh bf v) H locs) (hl : lv_has ls 7 [(4, .int (nI i)), (3, .ref ot), (2, .ref (a' 0)), (1, .ref (a 0)), (0, .ref b)]) (kn : lw_N p l e R s m args below meth c Q D k A a ra n a' ot b i (cells + 3) (slots + 222)) : W p l e R s m args below meth c H locs cells slots Q (F0 m 429 ls []) := by
  obtain ⟨hx, hb, -⟩ := id C
  refine lv_aload_n hx hb d_Lw_law_429 rfl (lv_at hl 3 rfl) ?_
  refine pb_vR C (pb_tail (lw_toB hw) hA).1 k_Bk_free m_186 (c_Bk_free l D a ra k n fs op tn mn sz fd pg en bl pl wa M t hI.1 hI.2.1 hI.2.2.1 hI.2.2.2.2.2.2.1 hI.ho) rfl hl.1 0 0 rfl rfl rfl (by decide) ⟨by rw [hRc.1]; omega, by rw [hRc.2]; omega⟩ rfl (Nat.le_of_ble_eq_true rfl) d_Lw_law_430 (fun r1 hp1 => ?_)
  refine lv_aload_n hx hb d_Lw_law_433 rfl (lv_at hl 2 rfl) ?_
  refine pb_tI C hA (pb_perm2 hw) k_Md_free m_426 (c_Md_free l D a' k n op t mm th fs wr eb fd wh bf M en bl pl wa H.size hI.1 hI.2.1 hI.2.2.1 hI.2.2.2.2.2.2.1 hI.hm) rfl hl.1 0 2 rfl rfl rfl (by decide) ⟨by rw [hRc.1]; omega, by rw [hRc.2]; omega⟩ rfl (Nat.le_of_ble_eq_true rfl) d_Lw_law_434 (fun r2 u2 H2 locs2 hp2 hw2 => ?_)
  have hw2 := pb_perm2 hw2
  refine lv_icmp_eq (tgt := 455) hx hb d_Lw_law_437 (by decide) (fun hr => ?_) (fun hr => absurd (pb_free2 hI.emm hp1 hp2) hr)
  refine W.widen (k := cells + 3) (n := slots + 222) (by omega) (by omega) ?_
  have hw3 : pb_W D A s.heap (lw_W a ra k n a' ot fs op tn mn sz fd pg en bl pl wa M t mm 0 wr eb wh bf v) H2 locs2 := hw2
  exact kn fs op tn mn sz fd pg en bl pl wa M t mm 0 wr eb wh bf v H2 locs2 ls (hI) hw3 hl
set_option maxHeartbeats 4000000 in
theorem lw_c_root (C : pb_C D k R_law2 code 7 15 10622 p R s m args c) (hRc : R.cells = 603072 ∧ R.slots = 7227120) (hcs : cells + 3 ≤ 603072 ∧ slots + 222 ≤ 7227120) (hA : ∀ q, s.heap.size ≤ q → A q) (hAo : ∀ q, q < s.heap.size → ¬ A q) (hX : va_X b L xs s s.heap) (hbl : b < s.heap.size) (hL : L ≤ 2049) (hi : i + 4 ≤ L) (hI : pb_L n fs op tn mn sz fd pg en bl pl wa M t mm wr eb wh bf) (hw : pb_W D A s.heap (lw_W a ra k n a' ot fs op tn mn sz fd pg en bl pl wa M t mm th wr eb wh bf v) H locs) (hl : lv_has ls 7 [(4, .int (nI i)), (3, .ref ot), (2, .ref (a' 0)), (1, .ref (a 0)), (0, .ref b)]) (kn : lw_N p l e R s m args below meth c Q D k A a ra n a' ot b i (cells + 3) (slots + 222)) : W p l e R s m args below meth c H locs cells slots Q (F0 m 442 ls []) := by
  obtain ⟨hx, hb, -⟩ := id C
  refine lv_aload_n hx hb d_Lw_law_442 rfl (lv_at hl 3 rfl) ?_
  refine pb_vR C (pb_tail (lw_toB hw) hA).1 k_Bk_root m_190 (c_Bk_root l D a ra k n fs op tn mn sz fd pg en bl pl wa M t hI.1 hI.2.1 hI.2.2.1 hI.2.2.2.2.2.2.1 hI.ho) rfl hl.1 0 0 rfl rfl rfl (by decide) ⟨by rw [hRc.1]; omega, by rw [hRc.2]; omega⟩ rfl (Nat.le_of_ble_eq_true rfl) d_Lw_law_443 (fun r1 hp1 => ?_)
  refine lv_aload_n hx hb d_Lw_law_446 rfl (lv_at hl 2 rfl) ?_
  refine pb_tI C hA (pb_perm2 hw) k_Md_root m_430 (c_Md_root l D a' k n op t mm th fs wr eb fd wh bf M en bl pl wa H.size hI.1 hI.2.1 hI.2.2.1 hI.2.2.2.2.2.2.1 hI.hm) rfl hl.1 0 2 rfl rfl rfl (by decide) ⟨by rw [hRc.1]; omega, by rw [hRc.2]; omega⟩ rfl (Nat.le_of_ble_eq_true rfl) d_Lw_law_447 (fun r2 u2 H2 locs2 hp2 hw2 => ?_)
  have hw2 := pb_perm2 hw2
  refine lv_icmp_eq (tgt := 455) hx hb d_Lw_law_450 (by decide) (fun hr => ?_) (fun hr => absurd (pb_root2 hp1 hp2) hr)
  refine W.widen (k := cells + 3) (n := slots + 222) (by omega) (by omega) ?_
  have hw3 : pb_W D A s.heap (lw_W a ra k n a' ot fs op tn mn sz fd pg en bl pl wa M t mm 0 wr eb wh bf v) H2 locs2 := hw2
  exact kn fs op tn mn sz fd pg en bl pl wa M t mm 0 wr eb wh bf v H2 locs2 ls (hI) hw3 hl
end LWC
end
section
-- ===== the law: byteAt's case, the loop (by gen/m13.py) =====
section LWD
variable {p : Program} {l : Launch} {e : Env} {R : Room} {s : State} {m : MethodId} {args : Array Value} {below : List Frame} {meth : Method} {c : Code} {H : Heap} {locs : List Loc} {cells slots : Nat} {Q : State → Prop}
variable {pc : Nat} {ls : Array Slot} {rest : List Value} {D : va_G} {k : Nat → ClassId} {A : Nat → Prop}
variable {a ra : Nat → Nat} {n : Nat} {a' : Nat → Nat} {ot b i L : Nat} {xs : Nat → Int32}
variable {fs op : Nat} {tn : Int32} {mn sz : Nat} {fd pg en bl pl wa : Nat → Nat} {M : Nat → Nat → Nat} {t mm th wr : Nat} {eb wh bf : Nat → Nat} {v : Nat → Int64}
set_option maxHeartbeats 4000000 in
theorem lw_c_byteAt (hlt : l.stackTraces = false) (h0 : pb_T0 args s) (C : pb_C D k R_law2 code 7 15 10622 p R s m args c) (hRc : R.cells = 603072 ∧ R.slots = 7227120) (hcs : cells + 3 ≤ 603072 ∧ slots + 222 ≤ 7227120) (hA : ∀ q, s.heap.size ≤ q → A q) (hAo : ∀ q, q < s.heap.size → ¬ A q) (hX : va_X b L xs s s.heap) (hbl : b < s.heap.size) (hL : L ≤ 2049) (hi : i + 4 ≤ L) (hI : pb_L n fs op tn mn sz fd pg en bl pl wa M t mm wr eb wh bf) (hw : pb_W D A s.heap (lw_W a ra k n a' ot fs op tn mn sz fd pg en bl pl wa M t mm th wr eb wh bf v) H locs) (hl : lv_has ls 7 [(4, .int (nI i)), (3, .ref ot), (2, .ref (a' 0)), (1, .ref (a 0)), (0, .ref b)]) (kn : lw_N p l e R s m args below meth c Q D k A a ra n a' ot b i (cells + 3) (slots + 222)) : W p l e R s m args below meth c H locs cells slots Q (F0 m 361 ls []) := by
  obtain ⟨hx, hb, -⟩ := id C
  have hK := C.2.2.2.2.2.1
  refine lv_aload_n hx hb d_Lw_law_361 rfl (lv_at hl 3 rfl) ?_
  refine lw_ld (j := 1) (o4 := 0) C hX hbl hAo hL hw.2.2 d_Lw_law_362 d_Lw_law_363 d_Lw_law_365 (by decide +kernel) d_Lw_law_366 d_Lw_law_367 (by omega) hl rfl rfl ?_
  refine lw_ld (j := 2) (o4 := 0) C hX hbl hAo hL hw.2.2 d_Lw_law_368 d_Lw_law_369 d_Lw_law_371 (by decide +kernel) d_Lw_law_372 d_Lw_law_373 (by omega) hl rfl rfl ?_
  refine lv_aload_n hx hb d_Lw_law_374 rfl (lv_at hl 1 rfl) ?_
  refine pb_sJ (s0 := s) C hA hw m_197 (fun U hU hW => ⟨hW, fun q hq => by rw [hU]; exact hw.2.2.2.1 q hq (hAo q hq)⟩) (c_Lw_byteAt l hlt D a ra k n fs op tn mn sz fd pg en bl pl wa M (xs (i + 1)) (xs (i + 2)) ot v H.size hI.1 hI.2.2.1 args s h0) rfl hl.1 ⟨by decide, by decide⟩ ⟨by rw [hRc.1]; omega, by rw [hRc.2]; omega⟩ rfl (Nat.le_of_ble_eq_true rfl) d_Lw_law_375 (fun r1 u1 H1 locs1 hp1 hw1 => ?_)
  refine lv_istore (i := 5) hx hb d_Lw_law_378 hl (by decide) rfl (fun ls hl => ?_)
  have hl : lv_has ls 7 [(5, .int r1), (4, .int (nI i)), (3, .ref ot), (2, .ref (a' 0)), (1, .ref (a 0)), (0, .ref b)] := hl
  refine lv_aload_n hx hb d_Lw_law_380 rfl (lv_at hl 3 rfl) ?_
  refine lw_ld (j := 1) (o4 := 1) C hX hbl hAo hL hw1.2.2 d_Lw_law_381 d_Lw_law_382 d_Lw_law_384 (by decide +kernel) d_Lw_law_385 d_Lw_law_386 (by omega) hl rfl rfl ?_
  refine lw_ld (j := 2) (o4 := 1) C hX hbl hAo hL hw1.2.2 d_Lw_law_387 d_Lw_law_388 d_Lw_law_390 (by decide +kernel) d_Lw_law_391 d_Lw_law_392 (by omega) hl rfl rfl ?_
  refine pb_tI C hA (pb_perm2 hw1) k_Md_byteAt m_422 (c_Md_byteAt l D a' k n op t mm th fs wr eb fd wh bf M (xs (i + 1)) (xs (i + 2)) H1.size hI.1 hI.2.1 hI.2.2.1) rfl hl.1 0 2 rfl rfl rfl (by decide) ⟨by rw [hRc.1]; omega, by rw [hRc.2]; omega⟩ rfl (Nat.le_of_ble_eq_true rfl) d_Lw_law_393 (fun r2 z2 H2 locs2 hp2 hw2 => ?_)
  have hw2 := pb_perm2 hw2
  have hw3 : pb_W D A s.heap (lw_W a ra k n a' ot fs op tn mn sz fd pg en bl pl wa M t mm z2 wr eb wh bf u1) H2 locs2 := hw2
  refine lv_istore (i := 6) hx hb d_Lw_law_396 hl (by decide) rfl (fun ls hl => ?_)
  have hl : lv_has ls 7 [(6, .int r2), (5, .int r1), (4, .int (nI i)), (3, .ref ot), (2, .ref (a' 0)), (1, .ref (a 0)), (0, .ref b)] := hl
  have hl5 : lv_has ls 7 [(4, .int (nI i)), (3, .ref ot), (2, .ref (a' 0)), (1, .ref (a 0)), (0, .ref b)] := lv_sub hl [2, 3, 4, 5, 6] rfl
  refine lv_aload_n hx hb d_Lw_law_398 rfl (lv_at hl 4 rfl) ?_
  refine pb_vR C (pb_tail (pb_perm2 hw3) hA).1 k_Md_thrown m_337 (c_Md_thrown l D a' k n op t mm z2 fs wr eb fd wh bf M) rfl hl.1 0 2 rfl rfl rfl (by decide) ⟨by rw [hRc.1]; omega, by rw [hRc.2]; omega⟩ rfl (Nat.le_of_ble_eq_true rfl) d_Lw_law_399 (fun r3 hr3 => ?_)
  subst hr3
  refine lv_iload (i := 5) hx hb d_Lw_law_402 (lv_at hl 1 rfl) ?_
  rcases pb_byl_det hI.1 hp1 hp2 with ⟨rfl, rfl, he⟩ | ⟨rfl, rfl⟩
  · refine lv_icmp_eq (tgt := 409) hx hb d_Lw_law_404 (by decide) (fun _ => ?_) (fun hr => absurd rfl hr)
    refine lv_iload (i := 5) hx hb d_Lw_law_409 (lv_at hl 1 rfl) ?_
    refine pb_nz (tgt := 426) (by decide) hx hb d_Lw_law_411 (by decide) (fun h => absurd rfl h) (fun _ => ?_)
    refine lv_aload_n hx hb d_Lw_law_414 rfl (lv_at hl 3 rfl) ?_
    refine lv_iconst (v := nI 0) hx hb d_Lw_law_415 (by decide +kernel) ?_
    refine va_lald hx hb hK.1 hw3.1 6 3 rfl rfl (vp_in_nI (by decide) (by decide)) d_Lw_law_416 ?_
    rw [nI_clamp (by decide), he]
    refine lv_iload (i := 6) hx hb d_Lw_law_417 (lv_at hl 0 rfl) ?_
    refine lv_i2l hx hb d_Lw_law_419 rfl ?_
    refine pb_lcmp hx hb d_Lw_law_420 ?_
    refine lv_if_eq (tgt := 426) hx hb d_Lw_law_421 (by decide) (fun _ => ?_) (fun h => absurd rfl h)
    refine lv_goto (tgt := 455) hx hb d_Lw_law_426 (by decide) ?_
    exact kn fs op tn mn sz fd pg en bl pl wa M t mm 0 wr eb wh bf u1 H2 locs2 ls hI hw3 hl5
  · refine lv_icmp_eq (tgt := 409) hx hb d_Lw_law_404 (by decide) (fun _ => ?_) (fun hr => absurd rfl hr)
    refine lv_iload (i := 5) hx hb d_Lw_law_409 (lv_at hl 1 rfl) ?_
    refine pb_nz (tgt := 426) (by decide) hx hb d_Lw_law_411 (by decide) (fun _ => ?_) (fun h => absurd h (by decide))
    refine lv_goto (tgt := 455) hx hb d_Lw_law_426 (by decide) ?_
    exact kn fs op tn mn sz fd pg en bl pl wa M t mm 1 wr eb wh bf u1 H2 locs2 ls hI hw3 hl5
theorem pb_and15 (x : Int32) : ∃ j, j < 16 ∧ x &&& nI 15 = nI j := by
  refine ⟨(x.toBitVec &&& 15#32).toNat, ?_, ?_⟩
  · rw [BitVec.toNat_and]
    exact Nat.lt_succ_of_le Nat.and_le_right
  · apply Int32.toBitVec_inj.mp
    show x.toBitVec &&& _ = BitVec.ofNat 32 _
    rw [BitVec.ofNat_toNat]
    simp
    rfl
theorem pb_sub4 {L i : Nat} (hL : L < 4) (hi : i < 2 ^ 31) : nI L - nI 4 < nI i := by
  have h1 : (nI L - nI 4).toInt < 0 := by
    match L, hL with
    | 0, _ => decide +kernel
    | 1, _ => decide +kernel
    | 2, _ => decide +kernel
    | 3, _ => decide +kernel
  rw [Int32.lt_iff_toInt_lt, nI_toInt hi]
  omega

set_option maxHeartbeats 4000000 in
theorem lw_round (hlt : l.stackTraces = false) (h0 : pb_T0 args s) (C : pb_C D k R_law2 code 7 15 10622 p R s m args c) (hRc : R.cells = 603072 ∧ R.slots = 7227120) (hcs : cells + 3 ≤ 603072 ∧ slots + 222 ≤ 7227120) (hA : ∀ q, s.heap.size ≤ q → A q) (hAo : ∀ q, q < s.heap.size → ¬ A q) (hX : va_X b L xs s s.heap) (hbl : b < s.heap.size) (hL : L ≤ 2049) (hi : i + 4 ≤ L) (hI : pb_L n fs op tn mn sz fd pg en bl pl wa M t mm wr eb wh bf) (hw : pb_W D A s.heap (lw_W a ra k n a' ot fs op tn mn sz fd pg en bl pl wa M t mm th wr eb wh bf v) H locs) (hl : lv_has ls 7 [(4, .int (nI i)), (3, .ref ot), (2, .ref (a' 0)), (1, .ref (a 0)), (0, .ref b)]) (kn : lw_N p l e R s m args below meth c Q D k A a ra n a' ot b i (cells + 3) (slots + 222)) : W p l e R s m args below meth c H locs cells slots Q (F0 m 42 ls []) := by
  obtain ⟨hx, hb, -⟩ := id C
  refine lv_aload_n hx hb d_Lw_law_42 rfl (lv_at hl 4 rfl) ?_
  refine lv_iload (i := 4) hx hb d_Lw_law_43 (lv_at hl 0 rfl) ?_
  refine va_sld hx hb hX hbl (hAo b hbl) hw.2.2 (vp_in_nI (by omega) (by omega)) d_Lw_law_45 ?_
  refine lv_bipush (v := nI 15) hx hb d_Lw_law_46 (by decide +kernel) ?_
  refine lv_iand hx hb d_Lw_law_48 ?_
  obtain ⟨j, hj, ej⟩ := pb_and15 (xs (nI i).toNatClampNeg)
  rw [ej]
  by_cases h12 : 12 ≤ j
  · refine lv_tableOut (tgt := 455) hx hb d_Lw_law_49 (Or.inr (by rw [nI_toInt (by omega)]; omega)) (by decide) ?_
    refine W.widen (k := cells + 3) (n := slots + 222) (by omega) (by omega) ?_
    exact kn fs op tn mn sz fd pg en bl pl wa M t mm th wr eb wh bf v H locs ls hI hw hl
  · have hj : j < 12 := by omega
    clear h12 ej
    match j, hj with
    | 0, _ =>
      refine lv_tableIn (tgt := 112) (off := 63) hx hb d_Lw_law_49 (by decide +kernel) (by decide +kernel) (by decide +kernel) (by decide) ?_
      exact lw_c_feed C hRc hcs hA hAo hX hbl hL hi hI hw hl kn
    | 1, _ =>
      refine lv_tableIn (tgt := 137) (off := 88) hx hb d_Lw_law_49 (by decide +kernel) (by decide +kernel) (by decide +kernel) (by decide) ?_
      exact lw_c_put C hRc hcs hA hAo hX hbl hL hi hI hw hl kn
    | 2, _ =>
      refine lv_tableIn (tgt := 162) (off := 113) hx hb d_Lw_law_49 (by decide +kernel) (by decide +kernel) (by decide +kernel) (by decide) ?_
      exact lw_c_find C hRc hcs hA hAo hX hbl hL hi hI hw hl kn
    | 3, _ =>
      refine lv_tableIn (tgt := 199) (off := 150) hx hb d_Lw_law_49 (by decide +kernel) (by decide +kernel) (by decide +kernel) (by decide) ?_
      exact lw_c_entry C hRc hcs hA hAo hX hbl hL hi hI hw hl kn
    | 4, _ =>
      refine lv_tableIn (tgt := 236) (off := 187) hx hb d_Lw_law_49 (by decide +kernel) (by decide +kernel) (by decide +kernel) (by decide) ?_
      exact lw_c_drop C hRc hcs hA hAo hX hbl hL hi hI hw hl kn
    | 5, _ =>
      refine lv_tableIn (tgt := 261) (off := 212) hx hb d_Lw_law_49 (by decide +kernel) (by decide +kernel) (by decide +kernel) (by decide) ?_
      exact lw_c_crash C hRc hcs hA hAo hX hbl hL hi hI hw hl kn
    | 6, _ =>
      refine lv_tableIn (tgt := 286) (off := 237) hx hb d_Lw_law_49 (by decide +kernel) (by decide +kernel) (by decide +kernel) (by decide) ?_
      exact lw_c_reopen C hRc hcs hA hAo hX hbl hL hi hI hw hl kn
    | 7, _ =>
      refine lv_tableIn (tgt := 299) (off := 250) hx hb d_Lw_law_49 (by decide +kernel) (by decide +kernel) (by decide +kernel) (by decide) ?_
      exact lw_c_poke C hRc hcs hA hAo hX hbl hL hi hI hw hl kn
    | 8, _ =>
      refine lv_tableIn (tgt := 348) (off := 299) hx hb d_Lw_law_49 (by decide +kernel) (by decide +kernel) (by decide +kernel) (by decide) ?_
      exact lw_c_badAt C hRc hcs hA hAo hX hbl hL hi hI hw hl kn
    | 9, _ =>
      refine lv_tableIn (tgt := 361) (off := 312) hx hb d_Lw_law_49 (by decide +kernel) (by decide +kernel) (by decide +kernel) (by decide) ?_
      exact lw_c_byteAt hlt h0 C hRc hcs hA hAo hX hbl hL hi hI hw hl kn
    | 10, _ =>
      refine lv_tableIn (tgt := 429) (off := 380) hx hb d_Lw_law_49 (by decide +kernel) (by decide +kernel) (by decide +kernel) (by decide) ?_
      exact lw_c_free C hRc hcs hA hAo hX hbl hL hi hI hw hl kn
    | 11, _ =>
      refine lv_tableIn (tgt := 442) (off := 393) hx hb d_Lw_law_49 (by decide +kernel) (by decide +kernel) (by decide +kernel) (by decide) ?_
      exact lw_c_root C hRc hcs hA hAo hX hbl hL hi hI hw hl kn
end LWD
end
section
-- ===== from the skeleton: the law's end =====
def R_law : String := "PuzzleBookLaw"
def lw_P (b : Addr) (xs : List Int32) (args : Array Value) (s : State) : Prop := args = #[.ref b] ∧ s.IntsAt b xs ∧ xs.length ≤ 2049 ∧ (Jvm.Cond.and given_1 narrow_1).before args s = true
def lw_Q (_ : Array Value) (s : State) (o : Outcome) (t : State) : Prop := o = .returned (some (.int 1)) ∧ Framed s o t [] 603072 7227120
def lw_Z (below : List Frame) (a : Array Value) (s : State) : State → Prop := fun t => ∃ o, t.status = .running ∧ Ended t below o ∧ lw_Q a s o t
/-- the law's own end, with 1 on the stack, nothing written that was there before, its room as the claim has it -/
theorem lw_ret {p : Program} {l : Launch} {e : Env} {s : State} {m : MethodId} {below : List Frame} {meth : Method} {c : Code} {b : Nat} (hx : p.tables.exec = Jvm.exec) (hb : c.code = code) (hr : meth.sig.returnType = ret) (hlocks : meth.locks = false) {pc : Nat} {H : Heap} {ls : Array Slot} (hdg : decode code pc = .ok (.ireturn, 1)) : W p l e room_1 s m #[Value.ref b] below meth c H [] 603072 7227120 (lw_Z below #[Value.ref b] s) (F0 m pc ls [.int 1]) := by
  intro T hT X
  obtain ⟨fs, hret, hrun, hended, hW, hframe⟩ := X.leave (v := some (.int 1)) (hlocks := hlocks) (fun h => by rw [hr] at h; cases h)
  have hmeth' : T.vm.method? m = some meth := X.method'
  refine ⟨T.setFrames fs, ?_, .returned (some (.int 1)), hrun, hended, rfl, ⟨_, rfl⟩, hW, hframe⟩
  jvm_step X.here [X.here.top, hx, hb, hdg, hmeth', hr, ret, narrow_b1]
  (try refine ⟨rfl, ?_⟩); (try refine ⟨rfl, ?_⟩)
  first | (intro acts; rw [hret _ acts rfl rfl rfl]) | rw [hret _ _ rfl rfl rfl]
  exact Steps.refl _
/-- what holds at the law's entry: the machine, the code, the tables' words (any of lw_tbl by 'hts w (by decide +kernel)'), the script of L ints xs at the cell b, what the Statement gives of the start (any of its parts by flat_of_before) -/
def lw_At (p : Program) (s : State) (m : MethodId) (meth : Method) (c : Code) (b L : Nat) (xs : Nat → Int32) : Prop :=
  p.tables.exec = Jvm.exec ∧ c.code = code ∧ meth.sig.returnType = ret ∧ c.maxLocals = 7 ∧ s.vm.findClass R_law = some m.cls ∧ (∀ w ∈ lw_tbl, w.before #[Value.ref b] s = true) ∧ va_X b L xs s s.heap ∧ b < s.heap.size ∧ meth.locks = false ∧ (Jvm.Cond.and given_1 narrow_1).before #[Value.ref b] s = true
end
section
-- ===== the law's loop and its start (by gen/m14.py) =====
section LWE
variable {p : Program} {l : Launch} {e : Env} {R : Room} {s : State} {m : MethodId} {args : Array Value} {below : List Frame} {meth : Method} {c : Code} {Q : State → Prop} {D : va_G} {k : Nat → ClassId} {A : Nat → Prop} {a ra : Nat → Nat} {n : Nat} {a' : Nat → Nat} {ot b L : Nat} {xs : Nat → Int32}
theorem lw_head {H : Heap} {locs : List Loc} {ls : Array Slot} {cells slots i : Nat} {lv : List (Nat × Value)} (C : pb_C D k R_law2 code 7 15 10622 p R s m args c) (hX : va_X b L xs s s.heap) (hbl : b < s.heap.size) (hAo : ∀ q, q < s.heap.size → ¬ A q) (hS : va_S A s.heap H locs) (hL : L ≤ 2049) (hi : i < 2 ^ 31) (hl : lv_has ls 7 lv) (hl4 : lv[0]? = some (4, .int (nI i))) (hl0 : lv[4]? = some (0, .ref b))
    (k1 : W p l e R s m args below meth c H locs cells slots Q (F0 m 461 ls [])) (k2 : i + 4 ≤ L → W p l e R s m args below meth c H locs cells slots Q (F0 m 42 ls [])) : W p l e R s m args below meth c H locs cells slots Q (F0 m 33 ls []) := by
  obtain ⟨hx, hb, -⟩ := id C
  refine lv_iload (i := 4) hx hb d_Lw_law_33 (lv_at hl 0 hl4) ?_
  refine lv_aload_n hx hb d_Lw_law_35 rfl (lv_at hl 4 hl0) ?_
  refine va_slen hx hb hX hbl (hAo b hbl) hS d_Lw_law_36 ?_
  refine lv_iconst (v := nI 4) hx hb d_Lw_law_37 (by decide +kernel) ?_
  by_cases h4 : 4 ≤ L
  · refine pb_sub (a := L) (b := 4) h4 hx hb d_Lw_law_38 ?_
    refine pb_gt (tgt := 461) hi (by omega) hx hb d_Lw_law_39 (by decide) (fun _ => k1) (fun h => k2 (by omega))
  · refine lv_isub hx hb d_Lw_law_38 ?_
    refine lv_icmp_gt (tgt := 461) hx hb d_Lw_law_39 (by decide) (fun _ => k1) (fun h => absurd (pb_sub4 (L := L) (by omega) hi) h)
theorem lw_loop (hlt : l.stackTraces = false) (h0 : pb_T0 args s) (C : pb_C D k R_law2 code 7 15 10622 p R s m args c) (hRc : R.cells = 603072 ∧ R.slots = 7227120) (hA : ∀ q, s.heap.size ≤ q → A q) (hAo : ∀ q, q < s.heap.size → ¬ A q) (hX : va_X b L xs s s.heap) (hbl : b < s.heap.size) (hL : L ≤ 2049)
    (hfin : ∀ (H : Heap) (locs : List Loc) (ls : Array Slot) (cells slots : Nat), va_S A s.heap H locs → cells ≤ 603072 → slots ≤ 7227120 → W p l e R s m args below meth c H locs cells slots Q (F0 m 461 ls [])) :
    ∀ (fu kk : Nat) (fs op : Nat) (tn : Int32) (mn sz : Nat) (fd pg en bl pl wa : Nat → Nat) (M : Nat → Nat → Nat) (t mm th wr : Nat) (eb wh bf : Nat → Nat) (v : Nat → Int64) (H : Heap) (locs : List Loc) (ls : Array Slot), L < 4 * kk + 1 + 4 * fu → 4 * kk + 1 ≤ L + 4 → pb_L n fs op tn mn sz fd pg en bl pl wa M t mm wr eb wh bf → pb_W D A s.heap (lw_W a ra k n a' ot fs op tn mn sz fd pg en bl pl wa M t mm th wr eb wh bf v) H locs → lv_has ls 7 [(4, .int (nI (4 * kk + 1))), (3, .ref ot), (2, .ref (a' 0)), (1, .ref (a 0)), (0, .ref b)] → W p l e R s m args below meth c H locs (80 + 3 * kk) (9168 + 222 * kk) Q (F0 m 33 ls []) := by
  intro fu
  induction fu with
  | zero =>
    intro kk fs op tn mn sz fd pg en bl pl wa M t mm th wr eb wh bf v H locs ls hfu hkk hI hw hl
    exact lw_head C hX hbl hAo hw.2.2 hL (by omega) hl rfl rfl (hfin H locs ls _ _ hw.2.2 (by omega) (by omega)) (fun h => absurd h (by omega))
  | succ fu ih =>
    intro kk fs op tn mn sz fd pg en bl pl wa M t mm th wr eb wh bf v H locs ls hfu hkk hI hw hl
    refine lw_head C hX hbl hAo hw.2.2 hL (by omega) hl rfl rfl (hfin H locs ls _ _ hw.2.2 (by omega) (by omega)) (fun h => ?_)
    refine lw_round hlt h0 C hRc ⟨by omega, by omega⟩ hA hAo hX hbl hL h hI hw hl ?_
    intro fs op tn mn sz fd pg en bl pl wa M t mm th wr eb wh bf v H locs ls hI hw hl
    obtain ⟨hx, hb, -⟩ := id C
    refine lv_iinc (v := nI (4 * (kk + 1) + 1)) (lv' := [(4, .int (nI (4 * (kk + 1) + 1))), (3, .ref ot), (2, .ref (a' 0)), (1, .ref (a 0)), (0, .ref b)]) hx hb d_Lw_law_455 hl (k := 0) rfl (by rw [pb_i4, show 4 * kk + 1 + 4 = 4 * (kk + 1) + 1 by omega]) (by decide) rfl (fun ls hl => ?_)
    refine lv_goto (tgt := 33) hx hb d_Lw_law_458 (by decide) ?_
    rw [show 80 + 3 * kk + 3 = 80 + 3 * (kk + 1) by omega, show 9168 + 222 * kk + 222 = 9168 + 222 * (kk + 1) by omega]
    exact ih (kk + 1) fs op tn mn sz fd pg en bl pl wa M t mm th wr eb wh bf v H locs ls (by omega) (by omega) hI hw hl
end LWE
/-- the class byte[][], by its word -/
theorem pb_over {A : Array Value} {s : State} (h : (Cond.arrayOver (.array .byte)).before A s = true) : ∃ (comp cA : ClassId) (kA : Class), s.vm.findClass (FieldType.array .byte).toString = some comp ∧ s.vm.classes[cA]? = some kA ∧ kA.kind = .array comp (.array .byte) ∧ s.vm.findClass ("[" ++ (FieldType.array .byte).toString) = some cA := by
  simp only [Cond.before, Cond.holds, Cond.value, beq_iff_eq] at h
  cases hc : s.vm.findClass (FieldType.array .byte).toString with
  | none => simp [hc] at h
  | some comp =>
    simp only [hc, Option.bind_some, Option.bind_eq_some_iff, Option.map_eq_some_iff] at h
    obtain ⟨cA, hi, kA, hk, hq⟩ := h
    obtain ⟨hlt, hp, -⟩ := Array.findIdx?_eq_some_iff_getElem.mp hi
    have hkk : s.vm.classes[cA] = kA := (Array.getElem?_eq_some_iff.mp hk).2
    rw [hkk] at hp
    cases hkind : kA.kind with
    | array component ty =>
      rw [hkind] at hq hp
      simp at hq hp
      exact ⟨comp, cA, kA, rfl, hk, by rw [hkind, hp, hq.1], hq.2⟩
    | _ => rw [hkind] at hq; simp at hq
theorem pb_known {A : Array Value} {s : State} (hts : ∀ w ∈ lw_tbl, w.before A s = true) : ∃ (D : va_G) (k : Nat → ClassId), pb_kn D k s := by
  obtain ⟨c0, iS0, hKn0⟩ := u_known (C := R_Bk) (T := F_Bk) (N := 9) (n := 9) (fun w h => hts w (pb_Gs h)) i_Bk (hts _ (pb_Gs m_13))
  obtain ⟨c1, iS1, hKn1⟩ := u_known (C := R_Pn) (T := F_Pn) (N := 5) (n := 5) (fun w h => hts w (pb_Gs h)) i_Pn (hts _ (pb_Gs m_29))
  obtain ⟨c2, iS2, hKn2⟩ := u_known (C := R_Md) (T := F_Md) (N := 12) (n := 12) (fun w h => hts w (pb_Gs h)) i_Md (hts _ (pb_Gs m_278))
  obtain ⟨b0, kb0, cm0, hb1, hb2, hb3⟩ := Cond.arrayClass_spec (hts _ (pb_Gs m_51))
  obtain ⟨b1, kb1, cm1, hi1, hi2, hi3⟩ := Cond.arrayClass_spec (hts _ (pb_Gs m_52))
  obtain ⟨b3, kb3, cm3, hj1, hj2, hj3⟩ := Cond.arrayClass_spec (hts _ (pb_Gs m_434))
  obtain ⟨cm2, b2, kb2, ho1, ho2, ho3, ho4⟩ := pb_over (hts (.arrayOver (.array .byte)) (by decide +kernel))
  have e0 : cm2 = b0 := Option.some.inj (ho1.symm.trans hb1)
  subst e0
  refine ⟨(fun j => if j = 0 then c0 else if j = 1 then c1 else c2, fun j => if j = 0 then iS0 else if j = 1 then iS1 else iS2), fun j => if j = 0 then cm2 else if j = 1 then b1 else if j = 2 then b2 else b3, ⟨?_, ?_⟩, va_Nw.of rfl (hts _ (by decide +kernel)), kb2, kb0, cm0, ho4, ho2, ho3, hb2, hb3⟩
  · intro j q hq
    match j, hq with
    | 0, hq => cases hq; exact hKn0
    | 1, hq => cases hq; exact hKn1
    | 2, hq => cases hq; exact hKn2
    | j + 3, hq => simp at hq
  · intro j q hq
    match j, hq with
    | 0, hq => cases hq; exact ⟨fun n f => ⟨fun _ h => (by cases h), kb0, hb2, cm0, hb3⟩, hb1⟩
    | 1, hq => cases hq; exact ⟨fun n f => ⟨fun _ h => (by cases h), kb1, hi2, cm1, hi3⟩, hi1⟩
    | 2, hq => cases hq; exact ⟨fun n f => ⟨fun _ h => (by cases h), kb2, ho2, cm2, ho3⟩, ho4⟩
    | 3, hq => cases hq; exact ⟨fun n f => ⟨fun _ h => (by cases h), kb3, hj2, cm3, hj3⟩, hj1⟩
    | j + 4, hq => simp at hq
set_option maxHeartbeats 4000000 in
set_option maxRecDepth 100000 in
theorem whole_start {p : Program} {e : Env} {s : State} {m : MethodId} {below : List Frame} {meth : Method} {c : Code} (l : Launch) (hlt : l.stackTraces = false) {b L : Nat} {xs : Nat → Int32} (hL : L ≤ 2049) (C0 : lw_At p s m meth c b L xs) : W p l e room_1 s m #[Value.ref b] below meth c s.heap [] 0 0 (lw_Z below #[Value.ref b] s) (entryFrame m ([Value.ref b] : List Value).toArray 7) := by
  obtain ⟨hx, hb, hr, hml, hown, hts, hX, hbl, hlocks, hgv⟩ := id C0
  have hA : ∀ q : Nat, s.heap.size ≤ q → (fun q : Nat => s.heap.size ≤ q) q := fun _ h => h
  have hAo : ∀ q : Nat, q < s.heap.size → ¬ (fun q : Nat => s.heap.size ≤ q) q := fun q h => Nat.not_le.mpr h
  obtain ⟨D, k, hkn⟩ := pb_known hts
  have hfl := flat_of_before _ hgv
  have h0 : pb_T0 #[Value.ref b] s := ⟨hts, hfl _ (by decide +kernel), hfl _ (by decide +kernel)⟩
  have C : pb_C D k R_law2 code 7 15 10622 p room_1 s m #[Value.ref b] c := ⟨hx, hb, hml, hown, fun w h => hts w (pb_Gs h), hkn, Nat.le_refl _, Nat.le_refl _⟩
  have hRc : room_1.cells = 603072 ∧ room_1.slots = 7227120 := ⟨rfl, rfl⟩
  have hw : pb_W D (fun q : Nat => s.heap.size ≤ q) s.heap [] s.heap [] := ⟨fun k q h => by simp at h, ⟨fun i j p q h => by simp at h, fun k q h => by simp at h⟩, va_S.rf⟩
  have hl := lv_entry ([.ref b]) (n := 7) (Nat.le_of_ble_eq_true rfl)
  rw [lg_entry_eq]
  generalize (lg_sl ([.ref b]) ++ List.replicate (7 - (lg_sl ([.ref b])).length) Slot.unset).toArray = ls at hl ⊢
  have hl : lv_has ls 7 [(0, .ref b)] := hl
  refine pb_new (ci := 0) (fs := [.null, .null, .null, .null, .int (nI 0), .int (nI 0), .int (nI 0), .null, .int (nI 0)]) (Cc := R_Bk) (T := F_Bk) (N := 9) C hA hw i_Bk t_Bk t_Bk_ok m_12 m_13 m_1 rfl (fun j hj => by rcases (show j = 0 ∨ j = 1 ∨ j = 2 ∨ j = 3 ∨ j = 4 ∨ j = 5 ∨ j = 6 ∨ j = 7 ∨ j = 8 by omega) with rfl | rfl | rfl | rfl | rfl | rfl | rfl | rfl | rfl <;> rfl) (by decide) (by decide) d_Lw_law_0 (fun qb H1 locs1 hw1 => ?_)
  refine lv_dup hx hb d_Lw_law_3 rfl ?_
  refine lv_aload_n hx hb d_Lw_law_4 rfl (lv_at hl 0 rfl) ?_
  refine lv_iconst (v := nI 0) hx hb d_Lw_law_5 (by decide +kernel) ?_
  refine pb_cell0 C hL (hX.kept (hw1.2.2.2.1 b hbl (hAo b hbl))) m_194 hl.1 ⟨by decide, by decide⟩ ⟨by decide, by decide⟩ (Nat.le_of_ble_eq_true rfl) d_Lw_law_6 ?_
  refine pb_tC (w1 := []) (n := 1) (As := [.int (pb_c0 L xs)]) (rest := [.ref qb]) C hA hw1 m_15 m_1 m_16 rfl ⟨by decide +kernel, by decide +kernel, by decide +kernel⟩ m_14 (c_Bk_init l D k qb (pb_c0 L xs) _) rfl hl.1 ⟨by decide, by decide⟩ ⟨by decide, by decide⟩ rfl (Nat.le_of_ble_eq_true rfl) d_Lw_law_9 (fun ub H2 locs2 hpb hw2 => ?_)
  obtain ⟨a, ra, n, pg, en⟩ := ub
  obtain ⟨ha, hcl, hpg⟩ := hpb
  obtain rfl : a 0 = qb := ha
  have hw2 : pb_W D (fun q : Nat => s.heap.size ≤ q) s.heap (bk_W a ra k n 0 1 (nI 1) 0 0 (fun _ => 0) pg en (fun _ => 0) (fun _ => 0) (fun _ => 0) pb_M0) H2 locs2 := hw2
  refine lv_astore_n (i := 1) hx hb d_Lw_law_12 rfl hl (by decide) rfl (fun ls hl => ?_)
  have hl : lv_has ls 7 [(1, .ref (a 0)), (0, .ref b)] := hl
  refine pb_new (ci := 2) (fs := [.int (nI 0), .null, .int (nI 0), .int (nI 0), .int (nI 0), .int (nI 0), .null, .null, .int (nI 0), .null, .null, .int (nI 0)]) (Cc := R_Md) (T := F_Md) (N := 12) C hA hw2 i_Md t_Md t_Md_ok m_277 m_278 m_5 rfl (fun j hj => by rcases (show j = 0 ∨ j = 1 ∨ j = 2 ∨ j = 3 ∨ j = 4 ∨ j = 5 ∨ j = 6 ∨ j = 7 ∨ j = 8 ∨ j = 9 ∨ j = 10 ∨ j = 11 by omega) with rfl | rfl | rfl | rfl | rfl | rfl | rfl | rfl | rfl | rfl | rfl | rfl <;> rfl) (by decide) (by decide) d_Lw_law_13 (fun qm H3 locs3 hw3 => ?_)
  refine lv_dup hx hb d_Lw_law_16 rfl ?_
  refine lv_aload_n hx hb d_Lw_law_17 rfl (lv_at hl 1 rfl) ?_
  refine lv_iconst (v := nI 0) hx hb d_Lw_law_18 (by decide +kernel) ?_
  refine pb_cell0 C hL (hX.kept (hw3.2.2.2.1 b hbl (hAo b hbl))) m_194 hl.1 ⟨by decide, by decide⟩ ⟨by decide, by decide⟩ (Nat.le_of_ble_eq_true rfl) d_Lw_law_19 ?_
  refine pb_tC (n := 1) (As := [.int (pb_c0 L xs)]) (rest := [.ref qm]) C hA hw3 m_280 m_5 m_281 rfl ⟨by decide +kernel, by decide +kernel, by decide +kernel⟩ m_279 (c_Md_init l D k qm (pb_c0 L xs) _) rfl hl.1 ⟨by decide, by decide⟩ ⟨by decide, by decide⟩ rfl (Nat.le_of_ble_eq_true rfl) d_Lw_law_22 (fun um H4 locs4 hpm hw4 => ?_)
  obtain ⟨a', n', wh, bf⟩ := um
  obtain ⟨ha', hcl'⟩ := hpm
  obtain rfl : a' 0 = qm := ha'
  obtain rfl : n = n' := pb_clamp_det hcl hcl'
  have hw4 : pb_W D (fun q : Nat => s.heap.size ≤ q) s.heap (bk_W a ra k n 0 1 (nI 1) 0 0 (fun _ => 0) pg en (fun _ => 0) (fun _ => 0) (fun _ => 0) pb_M0 ++ md_W a' k n 1 1 0 0 0 0 (pb_flat pb_M0) (fun _ => 0) (fun _ => 0) wh bf) H4 locs4 := hw4
  refine lv_astore_n (i := 2) hx hb d_Lw_law_25 rfl hl (by decide) rfl (fun ls hl => ?_)
  have hl : lv_has ls 7 [(2, .ref (a' 0)), (1, .ref (a 0)), (0, .ref b)] := hl
  refine lv_iconst (v := nI 1) hx hb d_Lw_law_26 (by decide +kernel) ?_
  refine pb_newl C hA hw4 (by decide) (by decide) d_Lw_law_27 (fun ot H5 locs5 hw5 => ?_)
  refine lv_astore_n (i := 3) hx hb d_Lw_law_29 rfl hl (by decide) rfl (fun ls hl => ?_)
  have hl : lv_has ls 7 [(3, .ref ot), (2, .ref (a' 0)), (1, .ref (a 0)), (0, .ref b)] := hl
  refine lv_iconst (v := nI 1) hx hb d_Lw_law_30 (by decide +kernel) ?_
  refine lv_istore (i := 4) hx hb d_Lw_law_31 hl (by decide) rfl (fun ls hl => ?_)
  have hl : lv_has ls 7 [(4, .int (nI (4 * 0 + 1))), (3, .ref ot), (2, .ref (a' 0)), (1, .ref (a 0)), (0, .ref b)] := hl
  have hw6 := pb_perm2 hw5
  rw [← List.append_assoc] at hw6
  have hw7 := pb_perm2 hw6
  have hb4 := pb_clamp_b hcl
  refine lw_loop (D := D) (k := k) (A := fun q : Nat => s.heap.size ≤ q) (a := a) (ra := ra) (n := n) (a' := a') (ot := ot) (xs := xs) hlt h0 C hRc hA hAo hX hbl hL (fun H locs ls cells slots hS hc1 hc2 => ?_) 513 0 0 1 (nI 1) 0 0 (fun _ => 0) pg en (fun _ => 0) (fun _ => 0) (fun _ => 0) pb_M0 1 0 0 0 (fun _ => 0) wh bf (fun _ => 0) H5 locs5 ls (by omega) (by omega) ?_ hw7 hl
  · refine lv_iconst (v := 1) hx hb d_Lw_law_461 (by decide +kernel) ?_
    refine va_forget (fun q hq => hS.2.2 q hq) ?_
    refine W.widen (k := 603072) (n := 7227120) hc1 hc2 ?_
    exact lw_ret hx hb hr hlocks d_Lw_law_462
  · exact ⟨hb4.2, hb4.1, pb_M0_lt, by decide, fun _ => Nat.zero_lt_succ 255, hpg, by decide, fun _ => ⟨rfl, rfl, rfl, fun q hq => absurd hq (Nat.not_lt_zero q), fun q hq => absurd hq (Nat.not_lt_zero q), Or.inl rfl, by decide, fun q hq => absurd hq (Nat.not_lt_zero q), by decide, fun q hq => absurd hq (Nat.not_lt_zero q)⟩⟩
end
section
-- ===== from the skeleton: the claim (the launch writes no traces: l.flags = flags0) =====
set_option maxHeartbeats 4000000 in
theorem lw_walk (l : Launch) (hlt : l.stackTraces = false) (b : Addr) (xs : List Int32) : MetFree l x (headSpec (Jvm.Cond.code x code maxLocals ret :: tables_1) room_1) (lw_P b xs) (fun _ _ _ _ _ => True) lw_Q := by
  refine MetFree.of_bodyS (code := code) (maxLocals := maxLocals) (ret := ret) (by decide) ?_ ?_
  · intro args s m h hn
    obtain ⟨meth, c, h1, h2, h3, h4, h5, h6, -, -⟩ := Cond.code_spec hn (atoms_spec (ws := Jvm.Cond.code x code maxLocals ret :: tables_1) h _ List.mem_cons_self)
    exact ⟨meth, c, h1, h2, h3, h4, h5, h6⟩
  · intro p e s m args below meth c s₁ B hml0 hP _
    obtain ⟨rfl, hx, hbd, hgv⟩ := hP
    obtain ⟨scr, harrAt, hlist, hof, hsmall⟩ := hx
    obtain ⟨hcb, hkn, -, -⟩ := State.arrayAt?_spec harrAt
    have hown : s.vm.findClass R_law = some m.cls := findClass_of_methodNamed B.named
    have hts0 : ∀ c ∈ (Jvm.Cond.code x code maxLocals ret :: tables_1), c.before #[Value.ref b] s = true := atoms_spec (ws := Jvm.Cond.code x code maxLocals ret :: tables_1) B.pre
    have hts : ∀ w ∈ lw_tbl, w.before #[Value.ref b] s = true := k2_hts_sels lw_privs (fun w hw => hts0 w (List.mem_cons_of_mem _ hw)) lw_privs_ok
    have hml : c.maxLocals = 7 := B.maxLocals_eq (hts0 _ List.mem_cons_self)
    have X₀ : Stand p l e room_1 s m #[Value.ref b] below meth c s₁ [] 0 0 := Stand.of_body B
    have hh0 : s₁.heap = s.heap := by rw [B.state]; rfl
    have hsz : scr.slots.size = xs.length := by rw [← Array.length_toList, hlist, List.length_map]
    have hval : ∀ j : Nat, j < xs.length → scr.slots[j]? = some (.int (xs.getD j 0)) := fun j hj => by
      rw [← Array.getElem?_toList, hlist]
      simp [hj]
    have hbl : b < s.heap.size := (Array.getElem?_eq_some_iff.mp hcb).1
    have hX : va_X b xs.length (fun j => xs.getD j 0) s s.heap := ⟨scr, hcb, hof, hkn, hsz, hval⟩
    have K : W p l e room_1 s m #[Value.ref b] below meth c s₁.heap [] 0 0 (lw_Z below #[Value.ref b] s) (entryFrame m ([Value.ref b] : List Value).toArray 7) := by
      rw [hh0]
      exact whole_start l hlt hbd ⟨B.exec, B.bytes, B.returns, hml, hown, hts, hX, hbl, B.notSynchronized, hgv⟩
    obtain ⟨t, a1, o, b1, b2, b3⟩ := K s₁ rfl X₀
    exact ⟨t, o, a1, b1, b2, b3⟩
theorem lw_pre_spec {args : Array Value} {s : State} (h : (Jvm.Cond.and given_1 narrow_1).before args s = true) (hr : rest_1_c.before args s = true) : ∃ (b : Addr) (xs : List Int32), lw_P b xs args s := by
  have hs := flat_of_before _ h
  have hq := flat_of_before _ hr
  have hc : (Cond.count 1).before args s = true := hs _ (by decide +kernel)
  have harr : (Cond.arrayOf (.arg 0) .int).before args s = true := hs _ (by decide +kernel)
  have hle : (Cond.le (.length (.arg 0)) (.int 2049)).before args s = true := hs _ (by decide +kernel)
  have hlen : (Cond.isInt (.length (.arg 0))).before args s = true := hq _ (by decide +kernel)
  have hall : (Cond.all (.arg 0) (.isInt (.elem (.arg 0) (.index 0)))).before args s = true := hq _ (by decide +kernel)
  obtain ⟨b, xs, hb, hx⟩ := State.ints_of_pre rfl harr hlen hall
  have hsm : xs.length < 2 ^ 31 := hx.choose_spec.2.2.2
  have hev : (Term.length (.arg 0)).eval args s none [] s = some (.int xs.length.toInt32) := hx.length_eval hb
  have hv := Cond.le_ints hev (show (Term.int 2049).eval args s none [] s = some (.int 2049) from rfl)
  have hd : xs.length.toInt32 ≤ 2049 := by
    simpa [Cond.before, Cond.holds, hv] using hle
  have hN : xs.length ≤ 2049 := (Int32.ofNat_le_ofNat hsm (by decide)).mp (show Int32.ofNat xs.length ≤ Int32.ofNat 2049 from hd)
  exact ⟨b, xs, Cond.one_arg hc (show args[0]? = some (.ref b) from hb), hx, hN, h⟩
theorem lw_comes (l : Launch) (hlt : l.stackTraces = false) : Comes l x (Jvm.Cond.code x code maxLocals ret :: tables_1) room_1 (fun tb e args s => Calls_1 tb e args s ∧ rest_1 tb e args s ∧ Pre_1 tb e args s)
    (fun _ _ args s o t => lw_Q args s o t) := by
  intro p e ha hc hk s m args below hf hfit hheap happ hpre
  obtain ⟨b, xs, hP⟩ := lw_pre_spec hpre.2.2 hpre.2.1
  obtain ⟨k, o, h1, h2, h3, hQ⟩ := lw_walk l hlt b xs p e ha hc hk s m args below hf ((Spec.applies_iff_loose hf).mp happ).1 hP trivial
  exact ⟨k, o, h1, h2, h3, hQ⟩
theorem lw_frame {s t : State} {o : Outcome} {args : Array Value} (h : Framed s o t [] 603072 7227120) :
    Framed s o t (fieldLocs frame_1_writes args s ++ arrayLocs frame_1_arrays args s ++ staticLocs frame_1_statics s) 603072 7227120 := h
theorem lw_limb (L : Cond) (hL : ∀ (args : Array Value) (s t : State), L.after args s (.returned (some (.int 1))) t = true) :
    ArmFor flags0 classFile x code maxLocals ret World_1 tables_1 room_1 Calls_1 rest_1 Pre_1
      (fun tb e a s o t => postC L tb e a s o t ∧ Framed s o t (fieldLocs frame_1_writes a s ++ arrayLocs frame_1_arrays a s ++ staticLocs frame_1_statics s) 603072 7227120) := by
  intro l hfl _ _ p e ha hc hk s m args below hf hfit hheap happ hpre
  have hlt : l.stackTraces = false := by
    unfold Launch.stackTraces
    rw [hfl]
    decide +kernel
  obtain ⟨k, o, h1, h2, h3, rfl, hF⟩ := lw_comes l hlt p e ha hc hk s m args below hf hfit hheap happ hpre
  exact ⟨k, _, h1, h2, h3, hL args s _, lw_frame hF⟩
theorem i_vc : Claimed_1_1 ∧ Claimed_1_2 := ⟨lw_limb limb_1_1 (fun args s t => by simp [limb_1_1, Cond.after, Cond.holds, Cond.value]), lw_limb limb_1_2 (fun args s t => Cond.after_iff.mpr (by
  first | (rw [show limb_1_2 = Cond.eq .result (.int 1) from rfl, Cond.eq_ints (x := 1) (y := 1) rfl rfl]; simp; done) | (simp [limb_1_2, Cond.value, Term.eval]; done)))⟩
end
