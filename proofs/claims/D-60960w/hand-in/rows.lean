section
-- ===== PART A: goes FIRST, ahead of the names: the tables' words, and 'selects' of the private methods out of them =====
/-- a private method of a class that the tables say can be made, by its rows of tables_1 -/
def lw_okq (q : MethodName × Nat) : Prop := (q.1.cls ≠ "java/lang/invoke/MethodHandle" ∧ q.1.cls ≠ "java/lang/invoke/VarHandle") ∧ Cond.instantiable q.1.cls q.2 ∈ tables_1 ∧ Cond.privateMethod q.1 ∈ tables_1 ∧ Cond.instanceMethod q.1 ∈ tables_1
theorem lw_p0 : lw_okq (⟨"EditedScanner$Scanned", "slot", "(I)I"⟩, 6) := ⟨⟨by decide +kernel, by decide +kernel⟩, List.mem_of_getElem? (i := 52) (by decide +kernel), List.mem_of_getElem? (i := 144) (by decide +kernel), List.mem_of_getElem? (i := 145) (by decide +kernel)⟩
theorem lw_p1 : lw_okq (⟨"EditedScanner$Scanned", "move", "(III)V"⟩, 6) := ⟨⟨by decide +kernel, by decide +kernel⟩, List.mem_of_getElem? (i := 52) (by decide +kernel), List.mem_of_getElem? (i := 153) (by decide +kernel), List.mem_of_getElem? (i := 154) (by decide +kernel)⟩
theorem lw_p2 : lw_okq (⟨"EditedScanner", "rescan", "(III)V"⟩, 9) := ⟨⟨by decide +kernel, by decide +kernel⟩, List.mem_of_getElem? (i := 7) (by decide +kernel), List.mem_of_getElem? (i := 165) (by decide +kernel), List.mem_of_getElem? (i := 166) (by decide +kernel)⟩
theorem lw_p3 : lw_okq (⟨"EditedScanner", "scan", "(I)V"⟩, 9) := ⟨⟨by decide +kernel, by decide +kernel⟩, List.mem_of_getElem? (i := 7) (by decide +kernel), List.mem_of_getElem? (i := 169) (by decide +kernel), List.mem_of_getElem? (i := 170) (by decide +kernel)⟩
theorem lw_p4 : lw_okq (⟨"EditedScanner", "tokens", "()I"⟩, 9) := ⟨⟨by decide +kernel, by decide +kernel⟩, List.mem_of_getElem? (i := 7) (by decide +kernel), List.mem_of_getElem? (i := 190) (by decide +kernel), List.mem_of_getElem? (i := 191) (by decide +kernel)⟩
theorem lw_p5 : lw_okq (⟨"EditedScanner", "isFailed", "()Z"⟩, 9) := ⟨⟨by decide +kernel, by decide +kernel⟩, List.mem_of_getElem? (i := 7) (by decide +kernel), List.mem_of_getElem? (i := 194) (by decide +kernel), List.mem_of_getElem? (i := 195) (by decide +kernel)⟩
theorem lw_p6 : lw_okq (⟨"EditedScannerModel", "forget", "()V"⟩, 21) := ⟨⟨by decide +kernel, by decide +kernel⟩, List.mem_of_getElem? (i := 223) (by decide +kernel), List.mem_of_getElem? (i := 229) (by decide +kernel), List.mem_of_getElem? (i := 230) (by decide +kernel)⟩
theorem lw_p7 : lw_okq (⟨"EditedScannerModel", "change", "(IIJI)V"⟩, 21) := ⟨⟨by decide +kernel, by decide +kernel⟩, List.mem_of_getElem? (i := 223) (by decide +kernel), List.mem_of_getElem? (i := 311) (by decide +kernel), List.mem_of_getElem? (i := 312) (by decide +kernel)⟩
theorem lw_p8 : lw_okq (⟨"EditedScannerModel", "goOver", "(IIII)V"⟩, 21) := ⟨⟨by decide +kernel, by decide +kernel⟩, List.mem_of_getElem? (i := 223) (by decide +kernel), List.mem_of_getElem? (i := 315) (by decide +kernel), List.mem_of_getElem? (i := 316) (by decide +kernel)⟩
theorem lw_p9 : lw_okq (⟨"EditedScannerModel", "began", "(I)Z"⟩, 21) := ⟨⟨by decide +kernel, by decide +kernel⟩, List.mem_of_getElem? (i := 223) (by decide +kernel), List.mem_of_getElem? (i := 319) (by decide +kernel), List.mem_of_getElem? (i := 320) (by decide +kernel)⟩
theorem lw_p10 : lw_okq (⟨"EditedScannerModel", "scan", "(I)Z"⟩, 21) := ⟨⟨by decide +kernel, by decide +kernel⟩, List.mem_of_getElem? (i := 223) (by decide +kernel), List.mem_of_getElem? (i := 323) (by decide +kernel), List.mem_of_getElem? (i := 324) (by decide +kernel)⟩
theorem lw_p11 : lw_okq (⟨"EditedScannerModel", "scanAll", "()V"⟩, 21) := ⟨⟨by decide +kernel, by decide +kernel⟩, List.mem_of_getElem? (i := 223) (by decide +kernel), List.mem_of_getElem? (i := 327) (by decide +kernel), List.mem_of_getElem? (i := 328) (by decide +kernel)⟩
def lw_privs_1 : List (MethodName × Nat) := [(⟨"EditedScanner$Scanned", "slot", "(I)I"⟩, 6), (⟨"EditedScanner$Scanned", "move", "(III)V"⟩, 6), (⟨"EditedScanner", "rescan", "(III)V"⟩, 9), (⟨"EditedScanner", "scan", "(I)V"⟩, 9), (⟨"EditedScanner", "tokens", "()I"⟩, 9), (⟨"EditedScanner", "isFailed", "()Z"⟩, 9), (⟨"EditedScannerModel", "forget", "()V"⟩, 21), (⟨"EditedScannerModel", "change", "(IIJI)V"⟩, 21), (⟨"EditedScannerModel", "goOver", "(IIII)V"⟩, 21), (⟨"EditedScannerModel", "began", "(I)Z"⟩, 21), (⟨"EditedScannerModel", "scan", "(I)Z"⟩, 21), (⟨"EditedScannerModel", "scanAll", "()V"⟩, 21)]
theorem lw_r1 : ∀ q ∈ lw_privs_1, lw_okq q := List.forall_mem_cons.mpr ⟨lw_p0, List.forall_mem_cons.mpr ⟨lw_p1, List.forall_mem_cons.mpr ⟨lw_p2, List.forall_mem_cons.mpr ⟨lw_p3, List.forall_mem_cons.mpr ⟨lw_p4, List.forall_mem_cons.mpr ⟨lw_p5, List.forall_mem_cons.mpr ⟨lw_p6, List.forall_mem_cons.mpr ⟨lw_p7, List.forall_mem_cons.mpr ⟨lw_p8, List.forall_mem_cons.mpr ⟨lw_p9, List.forall_mem_cons.mpr ⟨lw_p10, List.forall_mem_cons.mpr ⟨lw_p11, fun _ h => absurd h List.not_mem_nil⟩⟩⟩⟩⟩⟩⟩⟩⟩⟩⟩⟩
def lw_privs : List (MethodName × Nat) := lw_privs_1
def lw_tbl : List Cond := k2_sels lw_privs ++ tables_1
theorem lw_privs_ok : ∀ q ∈ lw_privs, lw_okq q := lw_r1
/-- the words that a callee may be given: those that keep -/
def gW : List Cond := lw_tbl.filter goodWord
theorem gW_good {w : Cond} (h : w ∈ gW) : (w.onTables && w.keeps) = true ∨ ∃ ty, w = .arrayClass ty := good_of_word (List.mem_filter.mp h).2
theorem gW_of {w : Cond} (k : Nat) (h : lw_tbl[k]? = some w) (hg : goodWord w = true) : w ∈ gW := List.mem_filter.mpr ⟨List.mem_of_getElem? h, hg⟩
theorem gW_in {w : Cond} (h : w ∈ gW) : w ∈ lw_tbl := (List.mem_filter.mp h).1
end
section
def R_law : String := "EditedScannerLaw"
def R_Tb : String := "EditedScanner$Table"
def F_Tb : u_T := fun k => match k with
  | 0 => ("EditedScanner$Table", "arrows", "[B", true)
  | _ => ("EditedScanner$Table", "kinds", "[B", true)
def t_Tb : Nat → FieldType := fun k => match k with
  | 0 => .array .byte
  | _ => .array .byte
def R_Sy : String := "EditedScanner$Symbols"
def F_Sy : u_T := fun k => match k with
  | 0 => ("EditedScanner$Symbols", "row", "[B", true)
  | 1 => ("EditedScanner$Symbols", "left", "I", false)
  | _ => ("EditedScanner$Symbols", "right", "I", false)
def t_Sy : Nat → FieldType := fun k => match k with
  | 0 => .array .byte
  | 1 => .int
  | _ => .int
def R_Sn : String := "EditedScanner$Scanned"
def F_Sn : u_T := fun k => match k with
  | 0 => ("EditedScanner$Scanned", "places", "[I", true)
  | 1 => ("EditedScanner$Scanned", "sizes", "[S", true)
  | 2 => ("EditedScanner$Scanned", "looks", "[S", true)
  | 3 => ("EditedScanner$Scanned", "kinds", "[B", true)
  | 4 => ("EditedScanner$Scanned", "left", "I", false)
  | _ => ("EditedScanner$Scanned", "right", "I", false)
def t_Sn : Nat → FieldType := fun k => match k with
  | 0 => .array .int
  | 1 => .array .short
  | 2 => .array .short
  | 3 => .array .byte
  | 4 => .int
  | _ => .int
def R_Ed : String := "EditedScanner"
def F_Ed : u_T := fun k => match k with
  | 0 => ("EditedScanner", "table", "LEditedScanner$Table;", true)
  | 1 => ("EditedScanner", "symbols", "LEditedScanner$Symbols;", true)
  | 2 => ("EditedScanner", "scanned", "LEditedScanner$Scanned;", true)
  | 3 => ("EditedScanner", "read", "I", false)
  | 4 => ("EditedScanner", "anew", "I", false)
  | 5 => ("EditedScanner", "edits", "I", false)
  | 6 => ("EditedScanner", "size", "I", false)
  | 7 => ("EditedScanner", "look", "I", false)
  | _ => ("EditedScanner", "kind", "I", false)
def t_Ed : Nat → FieldType := fun k => match k with
  | 0 => .object "EditedScanner$Table"
  | 1 => .object "EditedScanner$Symbols"
  | 2 => .object "EditedScanner$Scanned"
  | 3 => .int
  | 4 => .int
  | 5 => .int
  | 6 => .int
  | 7 => .int
  | _ => .int
def R_Mo : String := "EditedScannerModel"
def F_Mo : u_T := fun k => match k with
  | 0 => ("EditedScannerModel", "arrows", "[I", true)
  | 1 => ("EditedScannerModel", "kinds", "[I", true)
  | 2 => ("EditedScannerModel", "text", "[I", true)
  | 3 => ("EditedScannerModel", "size", "I", false)
  | 4 => ("EditedScannerModel", "tokens", "I", false)
  | 5 => ("EditedScannerModel", "begins", "[I", true)
  | 6 => ("EditedScannerModel", "sizes", "[I", true)
  | 7 => ("EditedScannerModel", "sorts", "[I", true)
  | 8 => ("EditedScannerModel", "looks", "[I", true)
  | 9 => ("EditedScannerModel", "failed", "I", false)
  | 10 => ("EditedScannerModel", "failedLook", "I", false)
  | 11 => ("EditedScannerModel", "oldTokens", "I", false)
  | 12 => ("EditedScannerModel", "oldBegins", "[I", true)
  | 13 => ("EditedScannerModel", "oldFailed", "I", false)
  | 14 => ("EditedScannerModel", "oldSize", "I", false)
  | 15 => ("EditedScannerModel", "read", "I", false)
  | 16 => ("EditedScannerModel", "scanned", "I", false)
  | 17 => ("EditedScannerModel", "edits", "I", false)
  | 18 => ("EditedScannerModel", "tokenSize", "I", false)
  | 19 => ("EditedScannerModel", "tokenKind", "I", false)
  | _ => ("EditedScannerModel", "tokenLook", "I", false)
def t_Mo : Nat → FieldType := fun k => match k with
  | 0 => .array .int
  | 1 => .array .int
  | 2 => .array .int
  | 3 => .int
  | 4 => .int
  | 5 => .array .int
  | 6 => .array .int
  | 7 => .array .int
  | 8 => .array .int
  | 9 => .int
  | 10 => .int
  | 11 => .int
  | 12 => .array .int
  | 13 => .int
  | 14 => .int
  | 15 => .int
  | 16 => .int
  | 17 => .int
  | 18 => .int
  | 19 => .int
  | _ => .int
abbrev b_Ed_init : ByteArray := prog_1_method_1_code
def y_Ed_init : MethodName := ⟨R_Ed, "<init>", "()V"⟩
abbrev b_Tb_init : ByteArray := prog_4_method_1_code
def y_Tb_init : MethodName := ⟨R_Tb, "<init>", "()V"⟩
abbrev b_Tb_clear : ByteArray := prog_4_method_2_code
def y_Tb_clear : MethodName := ⟨R_Tb, "clear", "()V"⟩
abbrev b_Sy_init : ByteArray := prog_3_method_1_code
def y_Sy_init : MethodName := ⟨R_Sy, "<init>", "()V"⟩
abbrev b_Sn_init : ByteArray := prog_2_method_1_code
def y_Sn_init : MethodName := ⟨R_Sn, "<init>", "()V"⟩
abbrev b_Ed_arrow : ByteArray := prog_1_method_3_code
def y_Ed_arrow : MethodName := ⟨R_Ed, "arrow", "(III)Z"⟩
abbrev b_Ed_isState : ByteArray := prog_1_method_2_code
def y_Ed_isState : MethodName := ⟨R_Ed, "isState", "(I)Z"⟩
abbrev b_Sy_size : ByteArray := prog_3_method_2_code
def y_Sy_size : MethodName := ⟨R_Sy, "size", "()I"⟩
abbrev b_Ed_kind : ByteArray := prog_1_method_4_code
def y_Ed_kind : MethodName := ⟨R_Ed, "kind", "(II)Z"⟩
abbrev b_Ed_edit : ByteArray := prog_1_method_7_code
def y_Ed_edit : MethodName := ⟨R_Ed, "edit", "(IIJI)I"⟩
abbrev b_Ed_areSymbols : ByteArray := prog_1_method_6_code
def y_Ed_areSymbols : MethodName := ⟨R_Ed, "areSymbols", "(JI)Z"⟩
abbrev b_Sn_size : ByteArray := prog_2_method_2_code
def y_Sn_size : MethodName := ⟨R_Sn, "size", "()I"⟩
abbrev b_Sn_place : ByteArray := prog_2_method_4_code
def y_Sn_place : MethodName := ⟨R_Sn, "place", "(II)I"⟩
abbrev b_Sn_slot : ByteArray := prog_2_method_3_code
def y_Sn_slot : MethodName := ⟨R_Sn, "slot", "(I)I"⟩
abbrev b_Sn_go : ByteArray := prog_2_method_5_code
def y_Sn_go : MethodName := ⟨R_Sn, "go", "(II)V"⟩
abbrev b_Sn_move : ByteArray := prog_2_method_6_code
def y_Sn_move : MethodName := ⟨R_Sn, "move", "(III)V"⟩
abbrev b_Sy_go : ByteArray := prog_3_method_4_code
def y_Sy_go : MethodName := ⟨R_Sy, "go", "(I)V"⟩
abbrev b_Sy_put : ByteArray := prog_3_method_5_code
def y_Sy_put : MethodName := ⟨R_Sy, "put", "(I)V"⟩
abbrev b_Ed_rescan : ByteArray := prog_1_method_8_code
def y_Ed_rescan : MethodName := ⟨R_Ed, "rescan", "(III)V"⟩
abbrev b_Ed_scan : ByteArray := prog_1_method_5_code
def y_Ed_scan : MethodName := ⟨R_Ed, "scan", "(I)V"⟩
abbrev b_Sy_at : ByteArray := prog_3_method_3_code
def y_Sy_at : MethodName := ⟨R_Sy, "at", "(I)I"⟩
abbrev b_Tb_next : ByteArray := prog_4_method_3_code
def y_Tb_next : MethodName := ⟨R_Tb, "next", "(II)I"⟩
abbrev b_Sn_put : ByteArray := prog_2_method_7_code
def y_Sn_put : MethodName := ⟨R_Sn, "put", "(IIII)V"⟩
abbrev b_Ed_token : ByteArray := prog_1_method_11_code
def y_Ed_token : MethodName := ⟨R_Ed, "token", "(II)I"⟩
abbrev b_Ed_tokens : ByteArray := prog_1_method_10_code
def y_Ed_tokens : MethodName := ⟨R_Ed, "tokens", "()I"⟩
abbrev b_Ed_isFailed : ByteArray := prog_1_method_9_code
def y_Ed_isFailed : MethodName := ⟨R_Ed, "isFailed", "()Z"⟩
abbrev b_Ed_tokenAt : ByteArray := prog_1_method_12_code
def y_Ed_tokenAt : MethodName := ⟨R_Ed, "tokenAt", "(I)I"⟩
abbrev b_Ed_symbol : ByteArray := prog_1_method_13_code
def y_Ed_symbol : MethodName := ⟨R_Ed, "symbol", "(I)I"⟩
abbrev b_Ed_count : ByteArray := prog_1_method_14_code
def y_Ed_count : MethodName := ⟨R_Ed, "count", "(I)I"⟩
abbrev b_Ed_clear : ByteArray := prog_1_method_15_code
def y_Ed_clear : MethodName := ⟨R_Ed, "clear", "()I"⟩
abbrev b_Sy_clear : ByteArray := prog_3_method_6_code
def y_Sy_clear : MethodName := ⟨R_Sy, "clear", "()V"⟩
abbrev b_Sn_clear : ByteArray := prog_2_method_8_code
def y_Sn_clear : MethodName := ⟨R_Sn, "clear", "()V"⟩
abbrev b_Mo_init : ByteArray := prog_6_method_1_code
def y_Mo_init : MethodName := ⟨R_Mo, "<init>", "()V"⟩
abbrev b_Mo_forget : ByteArray := prog_6_method_2_code
def y_Mo_forget : MethodName := ⟨R_Mo, "forget", "()V"⟩
abbrev b_Mo_arrow : ByteArray := prog_6_method_3_code
def y_Mo_arrow : MethodName := ⟨R_Mo, "arrow", "(III)Z"⟩
abbrev b_Mo_kind : ByteArray := prog_6_method_4_code
def y_Mo_kind : MethodName := ⟨R_Mo, "kind", "(II)Z"⟩
abbrev b_Mo_edit : ByteArray := prog_6_method_8_code
def y_Mo_edit : MethodName := ⟨R_Mo, "edit", "(IIJI)I"⟩
abbrev b_Mo_change : ByteArray := prog_6_method_9_code
def y_Mo_change : MethodName := ⟨R_Mo, "change", "(IIJI)V"⟩
abbrev b_Mo_goOver : ByteArray := prog_6_method_10_code
def y_Mo_goOver : MethodName := ⟨R_Mo, "goOver", "(IIII)V"⟩
abbrev b_Mo_began : ByteArray := prog_6_method_7_code
def y_Mo_began : MethodName := ⟨R_Mo, "began", "(I)Z"⟩
abbrev b_Mo_scan : ByteArray := prog_6_method_5_code
def y_Mo_scan : MethodName := ⟨R_Mo, "scan", "(I)Z"⟩
abbrev b_Mo_scanAll : ByteArray := prog_6_method_6_code
def y_Mo_scanAll : MethodName := ⟨R_Mo, "scanAll", "()V"⟩
abbrev b_Mo_token : ByteArray := prog_6_method_11_code
def y_Mo_token : MethodName := ⟨R_Mo, "token", "(II)I"⟩
abbrev b_Mo_tokenAt : ByteArray := prog_6_method_12_code
def y_Mo_tokenAt : MethodName := ⟨R_Mo, "tokenAt", "(I)I"⟩
abbrev b_Mo_symbol : ByteArray := prog_6_method_13_code
def y_Mo_symbol : MethodName := ⟨R_Mo, "symbol", "(I)I"⟩
abbrev b_Mo_count : ByteArray := prog_6_method_14_code
def y_Mo_count : MethodName := ⟨R_Mo, "count", "(I)I"⟩
abbrev b_Mo_clear : ByteArray := prog_6_method_15_code
def y_Mo_clear : MethodName := ⟨R_Mo, "clear", "()I"⟩
abbrev classes : List vw_C := [(R_Tb, F_Tb, 2), (R_Sy, F_Sy, 3), (R_Sn, F_Sn, 6), (R_Ed, F_Ed, 9), (R_Mo, F_Mo, 21)]
theorem n_Tb : ∀ a, a < 2 → ∀ b, b < 2 → a ≠ b → (F_Tb a).2.1 ≠ (F_Tb b).2.1 := by decide +kernel
theorem t_Tb_ok : ∀ k, k < 2 → parseFieldDescriptor (F_Tb k).2.2.1 = some (t_Tb k) := by decide +kernel
theorem i_Tb : ∀ w ∈ u_ws R_Tb F_Tb 2, w ∈ gW := fun w h => List.mem_filter.mpr ⟨(by decide +kernel : ∀ w ∈ u_ws R_Tb F_Tb 2, w ∈ lw_tbl) w h, (by decide +kernel : ∀ w ∈ u_ws R_Tb F_Tb 2, goodWord w = true) w h⟩
theorem n_Sy : ∀ a, a < 3 → ∀ b, b < 3 → a ≠ b → (F_Sy a).2.1 ≠ (F_Sy b).2.1 := by decide +kernel
theorem t_Sy_ok : ∀ k, k < 3 → parseFieldDescriptor (F_Sy k).2.2.1 = some (t_Sy k) := by decide +kernel
theorem i_Sy : ∀ w ∈ u_ws R_Sy F_Sy 3, w ∈ gW := fun w h => List.mem_filter.mpr ⟨(by decide +kernel : ∀ w ∈ u_ws R_Sy F_Sy 3, w ∈ lw_tbl) w h, (by decide +kernel : ∀ w ∈ u_ws R_Sy F_Sy 3, goodWord w = true) w h⟩
theorem n_Sn : ∀ a, a < 6 → ∀ b, b < 6 → a ≠ b → (F_Sn a).2.1 ≠ (F_Sn b).2.1 := by decide +kernel
theorem t_Sn_ok : ∀ k, k < 6 → parseFieldDescriptor (F_Sn k).2.2.1 = some (t_Sn k) := by decide +kernel
theorem i_Sn : ∀ w ∈ u_ws R_Sn F_Sn 6, w ∈ gW := fun w h => List.mem_filter.mpr ⟨(by decide +kernel : ∀ w ∈ u_ws R_Sn F_Sn 6, w ∈ lw_tbl) w h, (by decide +kernel : ∀ w ∈ u_ws R_Sn F_Sn 6, goodWord w = true) w h⟩
theorem n_Ed : ∀ a, a < 9 → ∀ b, b < 9 → a ≠ b → (F_Ed a).2.1 ≠ (F_Ed b).2.1 := by decide +kernel
theorem t_Ed_ok : ∀ k, k < 9 → parseFieldDescriptor (F_Ed k).2.2.1 = some (t_Ed k) := by decide +kernel
theorem i_Ed : ∀ w ∈ u_ws R_Ed F_Ed 9, w ∈ gW := fun w h => List.mem_filter.mpr ⟨(by decide +kernel : ∀ w ∈ u_ws R_Ed F_Ed 9, w ∈ lw_tbl) w h, (by decide +kernel : ∀ w ∈ u_ws R_Ed F_Ed 9, goodWord w = true) w h⟩
theorem n_Mo : ∀ a, a < 21 → ∀ b, b < 21 → a ≠ b → (F_Mo a).2.1 ≠ (F_Mo b).2.1 := by decide +kernel
theorem t_Mo_ok : ∀ k, k < 21 → parseFieldDescriptor (F_Mo k).2.2.1 = some (t_Mo k) := by decide +kernel
theorem i_Mo : ∀ w ∈ u_ws R_Mo F_Mo 21, w ∈ gW := fun w h => List.mem_filter.mpr ⟨(by decide +kernel : ∀ w ∈ u_ws R_Mo F_Mo 21, w ∈ lw_tbl) w h, (by decide +kernel : ∀ w ∈ u_ws R_Mo F_Mo 21, goodWord w = true) w h⟩
theorem m_se_Sn_slot : Cond.selects R_Sn y_Sn_slot y_Sn_slot ∈ gW := gW_of 0 (by decide +kernel) rfl
theorem m_se_Sn_move : Cond.selects R_Sn y_Sn_move y_Sn_move ∈ gW := gW_of 1 (by decide +kernel) rfl
theorem m_se_Ed_rescan : Cond.selects R_Ed y_Ed_rescan y_Ed_rescan ∈ gW := gW_of 2 (by decide +kernel) rfl
theorem m_se_Ed_scan : Cond.selects R_Ed y_Ed_scan y_Ed_scan ∈ gW := gW_of 3 (by decide +kernel) rfl
theorem m_se_Ed_tokens : Cond.selects R_Ed y_Ed_tokens y_Ed_tokens ∈ gW := gW_of 4 (by decide +kernel) rfl
theorem m_se_Ed_isFailed : Cond.selects R_Ed y_Ed_isFailed y_Ed_isFailed ∈ gW := gW_of 5 (by decide +kernel) rfl
theorem m_se_Mo_forget : Cond.selects R_Mo y_Mo_forget y_Mo_forget ∈ gW := gW_of 6 (by decide +kernel) rfl
theorem m_se_Mo_change : Cond.selects R_Mo y_Mo_change y_Mo_change ∈ gW := gW_of 7 (by decide +kernel) rfl
theorem m_se_Mo_goOver : Cond.selects R_Mo y_Mo_goOver y_Mo_goOver ∈ gW := gW_of 8 (by decide +kernel) rfl
theorem m_se_Mo_began : Cond.selects R_Mo y_Mo_began y_Mo_began ∈ gW := gW_of 9 (by decide +kernel) rfl
theorem m_se_Mo_scan : Cond.selects R_Mo y_Mo_scan y_Mo_scan ∈ gW := gW_of 10 (by decide +kernel) rfl
theorem m_se_Mo_scanAll : Cond.selects R_Mo y_Mo_scanAll y_Mo_scanAll ∈ gW := gW_of 11 (by decide +kernel) rfl
theorem m_in_law : Cond.initialized R_law ∈ gW := gW_of 12 (by decide +kernel) rfl
theorem m_in_Ed : Cond.initialized R_Ed ∈ gW := gW_of 13 (by decide +kernel) rfl
theorem m_in_Tb : Cond.initialized R_Tb ∈ gW := gW_of 14 (by decide +kernel) rfl
theorem m_in_Sy : Cond.initialized R_Sy ∈ gW := gW_of 15 (by decide +kernel) rfl
theorem m_in_Sn : Cond.initialized R_Sn ∈ gW := gW_of 16 (by decide +kernel) rfl
theorem m_in_Mo : Cond.initialized R_Mo ∈ gW := gW_of 17 (by decide +kernel) rfl
theorem m_cl_law_7 : Cond.classLink R_law 7 R_Ed ∈ gW := gW_of 18 (by decide +kernel) rfl
theorem m_is_Ed : Cond.instantiable R_Ed 9 ∈ gW := gW_of 19 (by decide +kernel) rfl
theorem m_ml_law_9 : Cond.methodLink R_law 9 y_Ed_init ∈ gW := gW_of 20 (by decide +kernel) rfl
theorem m_im_Ed_init : Cond.instanceMethod y_Ed_init ∈ gW := gW_of 21 (by decide +kernel) rfl
theorem m_co_Ed_init : Cond.code y_Ed_init b_Ed_init 1 none ∈ gW := gW_of 22 rfl rfl
theorem m_ml_Ed_1 : Cond.methodLink R_Ed 1 objectInit ∈ gW := gW_of 23 (by decide +kernel) rfl
theorem m_im_obj_init : Cond.instanceMethod objectInit ∈ gW := gW_of 24 (by decide +kernel) rfl
theorem m_co_obj_init : Cond.code objectInit ⟨#[0xb1]⟩ 1 none ∈ gW := gW_of 25 rfl rfl
theorem m_cl_Ed_7 : Cond.classLink R_Ed 7 R_Tb ∈ gW := gW_of 26 (by decide +kernel) rfl
theorem m_is_Tb : Cond.instantiable R_Tb 2 ∈ gW := gW_of 27 (by decide +kernel) rfl
theorem m_ml_Ed_9 : Cond.methodLink R_Ed 9 y_Tb_init ∈ gW := gW_of 28 (by decide +kernel) rfl
theorem m_im_Tb_init : Cond.instanceMethod y_Tb_init ∈ gW := gW_of 29 (by decide +kernel) rfl
theorem m_co_Tb_init : Cond.code y_Tb_init b_Tb_init 1 none ∈ gW := gW_of 30 rfl rfl
theorem m_ml_Tb_1 : Cond.methodLink R_Tb 1 objectInit ∈ gW := gW_of 31 (by decide +kernel) rfl
theorem m_ml_Tb_16 : Cond.methodLink R_Tb 16 y_Tb_clear ∈ gW := gW_of 32 (by decide +kernel) rfl
theorem m_im_Tb_clear : Cond.instanceMethod y_Tb_clear ∈ gW := gW_of 33 (by decide +kernel) rfl
theorem m_se_Tb_clear : Cond.selects R_Tb y_Tb_clear y_Tb_clear ∈ gW := gW_of 34 (by decide +kernel) rfl
theorem m_co_Tb_clear : Cond.code y_Tb_clear b_Tb_clear 2 none ∈ gW := gW_of 35 rfl rfl
theorem m_fl_Tb_9 : Cond.fieldLink R_Tb 9 R_Tb "arrows" "[B" ∈ gW := gW_of 36 (by decide +kernel) rfl
theorem m_fl_Tb_13 : Cond.fieldLink R_Tb 13 R_Tb "kinds" "[B" ∈ gW := gW_of 38 (by decide +kernel) rfl
theorem m_ac_byte : Cond.arrayClass .byte ∈ gW := gW_of 45 (by decide +kernel) rfl
theorem m_cl_Ed_16 : Cond.classLink R_Ed 16 R_Sy ∈ gW := gW_of 46 (by decide +kernel) rfl
theorem m_is_Sy : Cond.instantiable R_Sy 3 ∈ gW := gW_of 47 (by decide +kernel) rfl
theorem m_im_Sy_init : Cond.instanceMethod y_Sy_init ∈ gW := gW_of 49 (by decide +kernel) rfl
theorem m_co_Sy_init : Cond.code y_Sy_init b_Sy_init 1 none ∈ gW := gW_of 50 rfl rfl
theorem m_ml_Sy_1 : Cond.methodLink R_Sy 1 objectInit ∈ gW := gW_of 51 (by decide +kernel) rfl
theorem m_fl_Sy_9 : Cond.fieldLink R_Sy 9 R_Sy "row" "[B" ∈ gW := gW_of 52 (by decide +kernel) rfl
theorem m_fl_Sy_17 : Cond.fieldLink R_Sy 17 R_Sy "left" "I" ∈ gW := gW_of 53 (by decide +kernel) rfl
theorem m_fl_Sy_13 : Cond.fieldLink R_Sy 13 R_Sy "right" "I" ∈ gW := gW_of 54 (by decide +kernel) rfl
theorem m_cl_Ed_23 : Cond.classLink R_Ed 23 R_Sn ∈ gW := gW_of 63 (by decide +kernel) rfl
theorem m_is_Sn : Cond.instantiable R_Sn 6 ∈ gW := gW_of 64 (by decide +kernel) rfl
theorem m_im_Sn_init : Cond.instanceMethod y_Sn_init ∈ gW := gW_of 66 (by decide +kernel) rfl
theorem m_co_Sn_init : Cond.code y_Sn_init b_Sn_init 1 none ∈ gW := gW_of 67 rfl rfl
theorem m_ml_Sn_1 : Cond.methodLink R_Sn 1 objectInit ∈ gW := gW_of 68 (by decide +kernel) rfl
theorem m_fl_Sn_9 : Cond.fieldLink R_Sn 9 R_Sn "places" "[I" ∈ gW := gW_of 69 (by decide +kernel) rfl
theorem m_fl_Sn_13 : Cond.fieldLink R_Sn 13 R_Sn "sizes" "[S" ∈ gW := gW_of 71 (by decide +kernel) rfl
theorem m_fl_Sn_17 : Cond.fieldLink R_Sn 17 R_Sn "looks" "[S" ∈ gW := gW_of 73 (by decide +kernel) rfl
theorem m_fl_Sn_20 : Cond.fieldLink R_Sn 20 R_Sn "kinds" "[B" ∈ gW := gW_of 75 (by decide +kernel) rfl
theorem m_fl_Sn_28 : Cond.fieldLink R_Sn 28 R_Sn "left" "I" ∈ gW := gW_of 77 (by decide +kernel) rfl
theorem m_fl_Sn_24 : Cond.fieldLink R_Sn 24 R_Sn "right" "I" ∈ gW := gW_of 78 (by decide +kernel) rfl
theorem m_ac_int : Cond.arrayClass .int ∈ gW := gW_of 93 (by decide +kernel) rfl
theorem m_ac_short : Cond.arrayClass .short ∈ gW := gW_of 94 (by decide +kernel) rfl
theorem m_fl_Ed_10 : Cond.fieldLink R_Ed 10 R_Ed "table" "LEditedScanner$Table;" ∈ gW := gW_of 95 (by decide +kernel) rfl
theorem m_fl_Ed_19 : Cond.fieldLink R_Ed 19 R_Ed "symbols" "LEditedScanner$Symbols;" ∈ gW := gW_of 96 (by decide +kernel) rfl
theorem m_fl_Ed_26 : Cond.fieldLink R_Ed 26 R_Ed "scanned" "LEditedScanner$Scanned;" ∈ gW := gW_of 97 (by decide +kernel) rfl
theorem m_fl_Ed_94 : Cond.fieldLink R_Ed 94 R_Ed "read" "I" ∈ gW := gW_of 98 (by decide +kernel) rfl
theorem m_fl_Ed_97 : Cond.fieldLink R_Ed 97 R_Ed "anew" "I" ∈ gW := gW_of 99 (by decide +kernel) rfl
theorem m_fl_Ed_104 : Cond.fieldLink R_Ed 104 R_Ed "edits" "I" ∈ gW := gW_of 100 (by decide +kernel) rfl
theorem m_fl_Ed_45 : Cond.fieldLink R_Ed 45 R_Ed "size" "I" ∈ gW := gW_of 101 (by decide +kernel) rfl
theorem m_fl_Ed_48 : Cond.fieldLink R_Ed 48 R_Ed "look" "I" ∈ gW := gW_of 102 (by decide +kernel) rfl
theorem m_fl_Ed_51 : Cond.fieldLink R_Ed 51 R_Ed "kind" "I" ∈ gW := gW_of 103 (by decide +kernel) rfl
theorem m_ml_law_13 : Cond.methodLink R_law 13 y_Ed_arrow ∈ gW := gW_of 123 (by decide +kernel) rfl
theorem m_im_Ed_arrow : Cond.instanceMethod y_Ed_arrow ∈ gW := gW_of 124 (by decide +kernel) rfl
theorem m_se_Ed_arrow : Cond.selects R_Ed y_Ed_arrow y_Ed_arrow ∈ gW := gW_of 125 (by decide +kernel) rfl
theorem m_co_Ed_arrow : Cond.code y_Ed_arrow b_Ed_arrow 4 (some .boolean) ∈ gW := gW_of 126 rfl rfl
theorem m_ml_Ed_30 : Cond.methodLink R_Ed 30 y_Ed_isState ∈ gW := gW_of 127 (by decide +kernel) rfl
theorem m_st_Ed_isState : Cond.static y_Ed_isState ∈ gW := gW_of 128 (by decide +kernel) rfl
theorem m_co_Ed_isState : Cond.code y_Ed_isState b_Ed_isState 1 (some .boolean) ∈ gW := gW_of 129 rfl rfl
theorem m_ml_Ed_34 : Cond.methodLink R_Ed 34 y_Sy_size ∈ gW := gW_of 130 (by decide +kernel) rfl
theorem m_im_Sy_size : Cond.instanceMethod y_Sy_size ∈ gW := gW_of 131 (by decide +kernel) rfl
theorem m_se_Sy_size : Cond.selects R_Sy y_Sy_size y_Sy_size ∈ gW := gW_of 132 (by decide +kernel) rfl
theorem m_co_Sy_size : Cond.code y_Sy_size b_Sy_size 1 (some .int) ∈ gW := gW_of 133 rfl rfl
theorem m_ml_law_18 : Cond.methodLink R_law 18 y_Ed_kind ∈ gW := gW_of 134 (by decide +kernel) rfl
theorem m_im_Ed_kind : Cond.instanceMethod y_Ed_kind ∈ gW := gW_of 135 (by decide +kernel) rfl
theorem m_se_Ed_kind : Cond.selects R_Ed y_Ed_kind y_Ed_kind ∈ gW := gW_of 136 (by decide +kernel) rfl
theorem m_co_Ed_kind : Cond.code y_Ed_kind b_Ed_kind 3 (some .boolean) ∈ gW := gW_of 137 rfl rfl
theorem m_ml_law_25 : Cond.methodLink R_law 25 y_Ed_edit ∈ gW := gW_of 138 (by decide +kernel) rfl
theorem m_im_Ed_edit : Cond.instanceMethod y_Ed_edit ∈ gW := gW_of 139 (by decide +kernel) rfl
theorem m_se_Ed_edit : Cond.selects R_Ed y_Ed_edit y_Ed_edit ∈ gW := gW_of 140 (by decide +kernel) rfl
theorem m_co_Ed_edit : Cond.code y_Ed_edit b_Ed_edit 11 (some .int) ∈ gW := gW_of 141 rfl rfl
theorem m_ml_Ed_66 : Cond.methodLink R_Ed 66 y_Ed_areSymbols ∈ gW := gW_of 142 (by decide +kernel) rfl
theorem m_st_Ed_areSymbols : Cond.static y_Ed_areSymbols ∈ gW := gW_of 143 (by decide +kernel) rfl
theorem m_co_Ed_areSymbols : Cond.code y_Ed_areSymbols b_Ed_areSymbols 5 (some .boolean) ∈ gW := gW_of 144 rfl rfl
theorem m_lc_Ed_62 : Cond.constantLong R_Ed 62 15 ∈ gW := gW_of 145 (by decide +kernel) rfl
theorem m_lc_Ed_64 : Cond.constantLong R_Ed 64 10 ∈ gW := gW_of 146 (by decide +kernel) rfl
theorem m_ml_Ed_70 : Cond.methodLink R_Ed 70 y_Sn_size ∈ gW := gW_of 147 (by decide +kernel) rfl
theorem m_im_Sn_size : Cond.instanceMethod y_Sn_size ∈ gW := gW_of 148 (by decide +kernel) rfl
theorem m_se_Sn_size : Cond.selects R_Sn y_Sn_size y_Sn_size ∈ gW := gW_of 149 (by decide +kernel) rfl
theorem m_co_Sn_size : Cond.code y_Sn_size b_Sn_size 1 (some .int) ∈ gW := gW_of 150 rfl rfl
theorem m_ml_Ed_71 : Cond.methodLink R_Ed 71 y_Sn_place ∈ gW := gW_of 151 (by decide +kernel) rfl
theorem m_im_Sn_place : Cond.instanceMethod y_Sn_place ∈ gW := gW_of 152 (by decide +kernel) rfl
theorem m_se_Sn_place : Cond.selects R_Sn y_Sn_place y_Sn_place ∈ gW := gW_of 153 (by decide +kernel) rfl
theorem m_co_Sn_place : Cond.code y_Sn_place b_Sn_place 3 (some .int) ∈ gW := gW_of 154 rfl rfl
theorem m_ml_Sn_31 : Cond.methodLink R_Sn 31 y_Sn_slot ∈ gW := gW_of 155 (by decide +kernel) rfl
theorem m_im_Sn_slot : Cond.instanceMethod y_Sn_slot ∈ gW := gW_of 157 (by decide +kernel) rfl
theorem m_co_Sn_slot : Cond.code y_Sn_slot b_Sn_slot 2 (some .int) ∈ gW := gW_of 158 rfl rfl
theorem m_ml_Ed_81 : Cond.methodLink R_Ed 81 y_Sn_go ∈ gW := gW_of 160 (by decide +kernel) rfl
theorem m_im_Sn_go : Cond.instanceMethod y_Sn_go ∈ gW := gW_of 161 (by decide +kernel) rfl
theorem m_se_Sn_go : Cond.selects R_Sn y_Sn_go y_Sn_go ∈ gW := gW_of 162 (by decide +kernel) rfl
theorem m_co_Sn_go : Cond.code y_Sn_go b_Sn_go 3 none ∈ gW := gW_of 163 rfl rfl
theorem m_ml_Sn_35 : Cond.methodLink R_Sn 35 y_Sn_move ∈ gW := gW_of 164 (by decide +kernel) rfl
theorem m_im_Sn_move : Cond.instanceMethod y_Sn_move ∈ gW := gW_of 166 (by decide +kernel) rfl
theorem m_co_Sn_move : Cond.code y_Sn_move b_Sn_move 4 none ∈ gW := gW_of 167 rfl rfl
theorem m_ml_Ed_85 : Cond.methodLink R_Ed 85 y_Sy_go ∈ gW := gW_of 168 (by decide +kernel) rfl
theorem m_im_Sy_go : Cond.instanceMethod y_Sy_go ∈ gW := gW_of 169 (by decide +kernel) rfl
theorem m_se_Sy_go : Cond.selects R_Sy y_Sy_go y_Sy_go ∈ gW := gW_of 170 (by decide +kernel) rfl
theorem m_co_Sy_go : Cond.code y_Sy_go b_Sy_go 2 none ∈ gW := gW_of 171 rfl rfl
theorem m_ml_Ed_91 : Cond.methodLink R_Ed 91 y_Sy_put ∈ gW := gW_of 172 (by decide +kernel) rfl
theorem m_im_Sy_put : Cond.instanceMethod y_Sy_put ∈ gW := gW_of 173 (by decide +kernel) rfl
theorem m_se_Sy_put : Cond.selects R_Sy y_Sy_put y_Sy_put ∈ gW := gW_of 174 (by decide +kernel) rfl
theorem m_co_Sy_put : Cond.code y_Sy_put b_Sy_put 2 none ∈ gW := gW_of 175 rfl rfl
theorem m_ml_Ed_100 : Cond.methodLink R_Ed 100 y_Ed_rescan ∈ gW := gW_of 176 (by decide +kernel) rfl
theorem m_im_Ed_rescan : Cond.instanceMethod y_Ed_rescan ∈ gW := gW_of 178 (by decide +kernel) rfl
theorem m_co_Ed_rescan : Cond.code y_Ed_rescan b_Ed_rescan 8 none ∈ gW := gW_of 179 rfl rfl
theorem m_ml_Ed_112 : Cond.methodLink R_Ed 112 y_Ed_scan ∈ gW := gW_of 180 (by decide +kernel) rfl
theorem m_im_Ed_scan : Cond.instanceMethod y_Ed_scan ∈ gW := gW_of 182 (by decide +kernel) rfl
theorem m_co_Ed_scan : Cond.code y_Ed_scan b_Ed_scan 3 none ∈ gW := gW_of 183 rfl rfl
theorem m_ml_Ed_54 : Cond.methodLink R_Ed 54 y_Sy_at ∈ gW := gW_of 184 (by decide +kernel) rfl
theorem m_im_Sy_at : Cond.instanceMethod y_Sy_at ∈ gW := gW_of 185 (by decide +kernel) rfl
theorem m_se_Sy_at : Cond.selects R_Sy y_Sy_at y_Sy_at ∈ gW := gW_of 186 (by decide +kernel) rfl
theorem m_co_Sy_at : Cond.code y_Sy_at b_Sy_at 2 (some .int) ∈ gW := gW_of 187 rfl rfl
theorem m_ml_Sy_20 : Cond.methodLink R_Sy 20 y_Sy_size ∈ gW := gW_of 188 (by decide +kernel) rfl
theorem m_ml_Ed_58 : Cond.methodLink R_Ed 58 y_Tb_next ∈ gW := gW_of 189 (by decide +kernel) rfl
theorem m_im_Tb_next : Cond.instanceMethod y_Tb_next ∈ gW := gW_of 190 (by decide +kernel) rfl
theorem m_se_Tb_next : Cond.selects R_Tb y_Tb_next y_Tb_next ∈ gW := gW_of 191 (by decide +kernel) rfl
theorem m_co_Tb_next : Cond.code y_Tb_next b_Tb_next 3 (some .int) ∈ gW := gW_of 192 rfl rfl
theorem m_ml_Ed_115 : Cond.methodLink R_Ed 115 y_Sn_put ∈ gW := gW_of 193 (by decide +kernel) rfl
theorem m_im_Sn_put : Cond.instanceMethod y_Sn_put ∈ gW := gW_of 194 (by decide +kernel) rfl
theorem m_se_Sn_put : Cond.selects R_Sn y_Sn_put y_Sn_put ∈ gW := gW_of 195 (by decide +kernel) rfl
theorem m_co_Sn_put : Cond.code y_Sn_put b_Sn_put 5 none ∈ gW := gW_of 196 rfl rfl
theorem m_ml_law_30 : Cond.methodLink R_law 30 y_Ed_token ∈ gW := gW_of 197 (by decide +kernel) rfl
theorem m_im_Ed_token : Cond.instanceMethod y_Ed_token ∈ gW := gW_of 198 (by decide +kernel) rfl
theorem m_se_Ed_token : Cond.selects R_Ed y_Ed_token y_Ed_token ∈ gW := gW_of 199 (by decide +kernel) rfl
theorem m_co_Ed_token : Cond.code y_Ed_token b_Ed_token 4 (some .int) ∈ gW := gW_of 200 rfl rfl
theorem m_ml_Ed_123 : Cond.methodLink R_Ed 123 y_Ed_tokens ∈ gW := gW_of 201 (by decide +kernel) rfl
theorem m_im_Ed_tokens : Cond.instanceMethod y_Ed_tokens ∈ gW := gW_of 203 (by decide +kernel) rfl
theorem m_co_Ed_tokens : Cond.code y_Ed_tokens b_Ed_tokens 1 (some .int) ∈ gW := gW_of 204 rfl rfl
theorem m_ml_Ed_119 : Cond.methodLink R_Ed 119 y_Ed_isFailed ∈ gW := gW_of 205 (by decide +kernel) rfl
theorem m_im_Ed_isFailed : Cond.instanceMethod y_Ed_isFailed ∈ gW := gW_of 207 (by decide +kernel) rfl
theorem m_co_Ed_isFailed : Cond.code y_Ed_isFailed b_Ed_isFailed 1 (some .boolean) ∈ gW := gW_of 208 rfl rfl
theorem m_ml_law_35 : Cond.methodLink R_law 35 y_Ed_tokenAt ∈ gW := gW_of 209 (by decide +kernel) rfl
theorem m_im_Ed_tokenAt : Cond.instanceMethod y_Ed_tokenAt ∈ gW := gW_of 210 (by decide +kernel) rfl
theorem m_se_Ed_tokenAt : Cond.selects R_Ed y_Ed_tokenAt y_Ed_tokenAt ∈ gW := gW_of 211 (by decide +kernel) rfl
theorem m_co_Ed_tokenAt : Cond.code y_Ed_tokenAt b_Ed_tokenAt 5 (some .int) ∈ gW := gW_of 212 rfl rfl
theorem m_ml_law_40 : Cond.methodLink R_law 40 y_Ed_symbol ∈ gW := gW_of 213 (by decide +kernel) rfl
theorem m_im_Ed_symbol : Cond.instanceMethod y_Ed_symbol ∈ gW := gW_of 214 (by decide +kernel) rfl
theorem m_se_Ed_symbol : Cond.selects R_Ed y_Ed_symbol y_Ed_symbol ∈ gW := gW_of 215 (by decide +kernel) rfl
theorem m_co_Ed_symbol : Cond.code y_Ed_symbol b_Ed_symbol 2 (some .int) ∈ gW := gW_of 216 rfl rfl
theorem m_ml_law_44 : Cond.methodLink R_law 44 y_Ed_count ∈ gW := gW_of 217 (by decide +kernel) rfl
theorem m_im_Ed_count : Cond.instanceMethod y_Ed_count ∈ gW := gW_of 218 (by decide +kernel) rfl
theorem m_se_Ed_count : Cond.selects R_Ed y_Ed_count y_Ed_count ∈ gW := gW_of 219 (by decide +kernel) rfl
theorem m_co_Ed_count : Cond.code y_Ed_count b_Ed_count 3 (some .int) ∈ gW := gW_of 220 rfl rfl
theorem m_ml_law_48 : Cond.methodLink R_law 48 y_Ed_clear ∈ gW := gW_of 221 (by decide +kernel) rfl
theorem m_im_Ed_clear : Cond.instanceMethod y_Ed_clear ∈ gW := gW_of 222 (by decide +kernel) rfl
theorem m_se_Ed_clear : Cond.selects R_Ed y_Ed_clear y_Ed_clear ∈ gW := gW_of 223 (by decide +kernel) rfl
theorem m_co_Ed_clear : Cond.code y_Ed_clear b_Ed_clear 2 (some .int) ∈ gW := gW_of 224 rfl rfl
theorem m_ml_Ed_129 : Cond.methodLink R_Ed 129 y_Sy_clear ∈ gW := gW_of 225 (by decide +kernel) rfl
theorem m_im_Sy_clear : Cond.instanceMethod y_Sy_clear ∈ gW := gW_of 226 (by decide +kernel) rfl
theorem m_se_Sy_clear : Cond.selects R_Sy y_Sy_clear y_Sy_clear ∈ gW := gW_of 227 (by decide +kernel) rfl
theorem m_co_Sy_clear : Cond.code y_Sy_clear b_Sy_clear 1 none ∈ gW := gW_of 228 rfl rfl
theorem m_ml_Ed_132 : Cond.methodLink R_Ed 132 y_Sn_clear ∈ gW := gW_of 229 (by decide +kernel) rfl
theorem m_im_Sn_clear : Cond.instanceMethod y_Sn_clear ∈ gW := gW_of 230 (by decide +kernel) rfl
theorem m_se_Sn_clear : Cond.selects R_Sn y_Sn_clear y_Sn_clear ∈ gW := gW_of 231 (by decide +kernel) rfl
theorem m_co_Sn_clear : Cond.code y_Sn_clear b_Sn_clear 1 none ∈ gW := gW_of 232 rfl rfl
theorem m_ml_Ed_133 : Cond.methodLink R_Ed 133 y_Tb_clear ∈ gW := gW_of 233 (by decide +kernel) rfl
theorem m_cl_law_10 : Cond.classLink R_law 10 R_Mo ∈ gW := gW_of 234 (by decide +kernel) rfl
theorem m_is_Mo : Cond.instantiable R_Mo 21 ∈ gW := gW_of 235 (by decide +kernel) rfl
theorem m_ml_law_12 : Cond.methodLink R_law 12 y_Mo_init ∈ gW := gW_of 236 (by decide +kernel) rfl
theorem m_im_Mo_init : Cond.instanceMethod y_Mo_init ∈ gW := gW_of 237 (by decide +kernel) rfl
theorem m_co_Mo_init : Cond.code y_Mo_init b_Mo_init 1 none ∈ gW := gW_of 238 rfl rfl
theorem m_ml_Mo_1 : Cond.methodLink R_Mo 1 objectInit ∈ gW := gW_of 239 (by decide +kernel) rfl
theorem m_ml_Mo_38 : Cond.methodLink R_Mo 38 y_Mo_forget ∈ gW := gW_of 240 (by decide +kernel) rfl
theorem m_im_Mo_forget : Cond.instanceMethod y_Mo_forget ∈ gW := gW_of 242 (by decide +kernel) rfl
theorem m_co_Mo_forget : Cond.code y_Mo_forget b_Mo_forget 2 none ∈ gW := gW_of 243 rfl rfl
theorem m_fl_Mo_7 : Cond.fieldLink R_Mo 7 R_Mo "arrows" "[I" ∈ gW := gW_of 244 (by decide +kernel) rfl
theorem m_fl_Mo_13 : Cond.fieldLink R_Mo 13 R_Mo "kinds" "[I" ∈ gW := gW_of 245 (by decide +kernel) rfl
theorem m_fl_Mo_16 : Cond.fieldLink R_Mo 16 R_Mo "text" "[I" ∈ gW := gW_of 246 (by decide +kernel) rfl
theorem m_fl_Mo_41 : Cond.fieldLink R_Mo 41 R_Mo "size" "I" ∈ gW := gW_of 247 (by decide +kernel) rfl
theorem m_fl_Mo_44 : Cond.fieldLink R_Mo 44 R_Mo "tokens" "I" ∈ gW := gW_of 248 (by decide +kernel) rfl
theorem m_fl_Mo_19 : Cond.fieldLink R_Mo 19 R_Mo "begins" "[I" ∈ gW := gW_of 249 (by decide +kernel) rfl
theorem m_fl_Mo_22 : Cond.fieldLink R_Mo 22 R_Mo "sizes" "[I" ∈ gW := gW_of 250 (by decide +kernel) rfl
theorem m_fl_Mo_25 : Cond.fieldLink R_Mo 25 R_Mo "sorts" "[I" ∈ gW := gW_of 251 (by decide +kernel) rfl
theorem m_fl_Mo_28 : Cond.fieldLink R_Mo 28 R_Mo "looks" "[I" ∈ gW := gW_of 252 (by decide +kernel) rfl
theorem m_fl_Mo_31 : Cond.fieldLink R_Mo 31 R_Mo "failed" "I" ∈ gW := gW_of 253 (by decide +kernel) rfl
theorem m_fl_Mo_47 : Cond.fieldLink R_Mo 47 R_Mo "failedLook" "I" ∈ gW := gW_of 254 (by decide +kernel) rfl
theorem m_fl_Mo_78 : Cond.fieldLink R_Mo 78 R_Mo "oldTokens" "I" ∈ gW := gW_of 255 (by decide +kernel) rfl
theorem m_fl_Mo_35 : Cond.fieldLink R_Mo 35 R_Mo "oldBegins" "[I" ∈ gW := gW_of 256 (by decide +kernel) rfl
theorem m_fl_Mo_72 : Cond.fieldLink R_Mo 72 R_Mo "oldFailed" "I" ∈ gW := gW_of 257 (by decide +kernel) rfl
theorem m_fl_Mo_75 : Cond.fieldLink R_Mo 75 R_Mo "oldSize" "I" ∈ gW := gW_of 258 (by decide +kernel) rfl
theorem m_fl_Mo_50 : Cond.fieldLink R_Mo 50 R_Mo "read" "I" ∈ gW := gW_of 259 (by decide +kernel) rfl
theorem m_fl_Mo_53 : Cond.fieldLink R_Mo 53 R_Mo "scanned" "I" ∈ gW := gW_of 260 (by decide +kernel) rfl
theorem m_fl_Mo_56 : Cond.fieldLink R_Mo 56 R_Mo "edits" "I" ∈ gW := gW_of 261 (by decide +kernel) rfl
theorem m_fl_Mo_59 : Cond.fieldLink R_Mo 59 R_Mo "tokenSize" "I" ∈ gW := gW_of 262 (by decide +kernel) rfl
theorem m_fl_Mo_62 : Cond.fieldLink R_Mo 62 R_Mo "tokenKind" "I" ∈ gW := gW_of 263 (by decide +kernel) rfl
theorem m_fl_Mo_65 : Cond.fieldLink R_Mo 65 R_Mo "tokenLook" "I" ∈ gW := gW_of 264 (by decide +kernel) rfl
theorem m_ml_law_17 : Cond.methodLink R_law 17 y_Mo_arrow ∈ gW := gW_of 308 (by decide +kernel) rfl
theorem m_im_Mo_arrow : Cond.instanceMethod y_Mo_arrow ∈ gW := gW_of 309 (by decide +kernel) rfl
theorem m_se_Mo_arrow : Cond.selects R_Mo y_Mo_arrow y_Mo_arrow ∈ gW := gW_of 310 (by decide +kernel) rfl
theorem m_co_Mo_arrow : Cond.code y_Mo_arrow b_Mo_arrow 4 (some .boolean) ∈ gW := gW_of 311 rfl rfl
theorem m_ml_law_22 : Cond.methodLink R_law 22 y_Mo_kind ∈ gW := gW_of 312 (by decide +kernel) rfl
theorem m_im_Mo_kind : Cond.instanceMethod y_Mo_kind ∈ gW := gW_of 313 (by decide +kernel) rfl
theorem m_se_Mo_kind : Cond.selects R_Mo y_Mo_kind y_Mo_kind ∈ gW := gW_of 314 (by decide +kernel) rfl
theorem m_co_Mo_kind : Cond.code y_Mo_kind b_Mo_kind 3 (some .boolean) ∈ gW := gW_of 315 rfl rfl
theorem m_ml_law_29 : Cond.methodLink R_law 29 y_Mo_edit ∈ gW := gW_of 316 (by decide +kernel) rfl
theorem m_im_Mo_edit : Cond.instanceMethod y_Mo_edit ∈ gW := gW_of 317 (by decide +kernel) rfl
theorem m_se_Mo_edit : Cond.selects R_Mo y_Mo_edit y_Mo_edit ∈ gW := gW_of 318 (by decide +kernel) rfl
theorem m_co_Mo_edit : Cond.code y_Mo_edit b_Mo_edit 9 (some .int) ∈ gW := gW_of 319 rfl rfl
theorem m_lc_Mo_81 : Cond.constantLong R_Mo 81 15 ∈ gW := gW_of 320 (by decide +kernel) rfl
theorem m_lc_Mo_83 : Cond.constantLong R_Mo 83 10 ∈ gW := gW_of 321 (by decide +kernel) rfl
theorem m_ml_Mo_85 : Cond.methodLink R_Mo 85 y_Mo_change ∈ gW := gW_of 322 (by decide +kernel) rfl
theorem m_im_Mo_change : Cond.instanceMethod y_Mo_change ∈ gW := gW_of 324 (by decide +kernel) rfl
theorem m_co_Mo_change : Cond.code y_Mo_change b_Mo_change 8 none ∈ gW := gW_of 325 rfl rfl
theorem m_ml_Mo_89 : Cond.methodLink R_Mo 89 y_Mo_goOver ∈ gW := gW_of 326 (by decide +kernel) rfl
theorem m_im_Mo_goOver : Cond.instanceMethod y_Mo_goOver ∈ gW := gW_of 328 (by decide +kernel) rfl
theorem m_co_Mo_goOver : Cond.code y_Mo_goOver b_Mo_goOver 7 none ∈ gW := gW_of 329 rfl rfl
theorem m_ml_Mo_96 : Cond.methodLink R_Mo 96 y_Mo_began ∈ gW := gW_of 330 (by decide +kernel) rfl
theorem m_im_Mo_began : Cond.instanceMethod y_Mo_began ∈ gW := gW_of 332 (by decide +kernel) rfl
theorem m_co_Mo_began : Cond.code y_Mo_began b_Mo_began 4 (some .boolean) ∈ gW := gW_of 333 rfl rfl
theorem m_ml_Mo_68 : Cond.methodLink R_Mo 68 y_Mo_scan ∈ gW := gW_of 334 (by decide +kernel) rfl
theorem m_im_Mo_scan : Cond.instanceMethod y_Mo_scan ∈ gW := gW_of 336 (by decide +kernel) rfl
theorem m_co_Mo_scan : Cond.code y_Mo_scan b_Mo_scan 4 (some .boolean) ∈ gW := gW_of 337 rfl rfl
theorem m_ml_Mo_93 : Cond.methodLink R_Mo 93 y_Mo_scanAll ∈ gW := gW_of 338 (by decide +kernel) rfl
theorem m_im_Mo_scanAll : Cond.instanceMethod y_Mo_scanAll ∈ gW := gW_of 340 (by decide +kernel) rfl
theorem m_co_Mo_scanAll : Cond.code y_Mo_scanAll b_Mo_scanAll 2 none ∈ gW := gW_of 341 rfl rfl
theorem m_ml_law_34 : Cond.methodLink R_law 34 y_Mo_token ∈ gW := gW_of 342 (by decide +kernel) rfl
theorem m_im_Mo_token : Cond.instanceMethod y_Mo_token ∈ gW := gW_of 343 (by decide +kernel) rfl
theorem m_se_Mo_token : Cond.selects R_Mo y_Mo_token y_Mo_token ∈ gW := gW_of 344 (by decide +kernel) rfl
theorem m_co_Mo_token : Cond.code y_Mo_token b_Mo_token 3 (some .int) ∈ gW := gW_of 345 rfl rfl
theorem m_ml_law_39 : Cond.methodLink R_law 39 y_Mo_tokenAt ∈ gW := gW_of 346 (by decide +kernel) rfl
theorem m_im_Mo_tokenAt : Cond.instanceMethod y_Mo_tokenAt ∈ gW := gW_of 347 (by decide +kernel) rfl
theorem m_se_Mo_tokenAt : Cond.selects R_Mo y_Mo_tokenAt y_Mo_tokenAt ∈ gW := gW_of 348 (by decide +kernel) rfl
theorem m_co_Mo_tokenAt : Cond.code y_Mo_tokenAt b_Mo_tokenAt 4 (some .int) ∈ gW := gW_of 349 rfl rfl
theorem m_ml_law_43 : Cond.methodLink R_law 43 y_Mo_symbol ∈ gW := gW_of 350 (by decide +kernel) rfl
theorem m_im_Mo_symbol : Cond.instanceMethod y_Mo_symbol ∈ gW := gW_of 351 (by decide +kernel) rfl
theorem m_se_Mo_symbol : Cond.selects R_Mo y_Mo_symbol y_Mo_symbol ∈ gW := gW_of 352 (by decide +kernel) rfl
theorem m_co_Mo_symbol : Cond.code y_Mo_symbol b_Mo_symbol 2 (some .int) ∈ gW := gW_of 353 rfl rfl
theorem m_ml_law_47 : Cond.methodLink R_law 47 y_Mo_count ∈ gW := gW_of 354 (by decide +kernel) rfl
theorem m_im_Mo_count : Cond.instanceMethod y_Mo_count ∈ gW := gW_of 355 (by decide +kernel) rfl
theorem m_se_Mo_count : Cond.selects R_Mo y_Mo_count y_Mo_count ∈ gW := gW_of 356 (by decide +kernel) rfl
theorem m_co_Mo_count : Cond.code y_Mo_count b_Mo_count 2 (some .int) ∈ gW := gW_of 357 rfl rfl
theorem m_ml_law_52 : Cond.methodLink R_law 52 y_Mo_clear ∈ gW := gW_of 358 (by decide +kernel) rfl
theorem m_im_Mo_clear : Cond.instanceMethod y_Mo_clear ∈ gW := gW_of 359 (by decide +kernel) rfl
theorem m_se_Mo_clear : Cond.selects R_Mo y_Mo_clear y_Mo_clear ∈ gW := gW_of 360 (by decide +kernel) rfl
theorem m_co_Mo_clear : Cond.code y_Mo_clear b_Mo_clear 2 (some .int) ∈ gW := gW_of 361 rfl rfl
theorem m_lc_law_23 : Cond.constantLong R_law 23 4294967295 ∈ gW := gW_of 362 (by decide +kernel) rfl
/-- the words of private members of a nest mate: host and owner are the same class; they are carried beside the world -/
def nF : List (Nat × String × String × String) := [(38, R_Tb, "arrows", "[B"), (42, R_Tb, "kinds", "[B"), (88, R_Sy, "right", "I"), (108, R_Sn, "places", "[I"), (126, R_Sn, "sizes", "[S"), (74, R_Sn, "looks", "[S"), (118, R_Sn, "kinds", "[B"), (107, R_Sn, "right", "I")]
def nM : List (Nat × MethodName) := [(18, y_Sy_init), (25, y_Sn_init), (78, y_Sn_slot)]
def NW (U : State) : Prop := (∀ q ∈ nF, va_Nw (.fieldLinkNest R_Ed q.1 q.2.1 q.2.2.1 q.2.2.2 R_Ed) U) ∧ ∀ q ∈ nM, va_Nw (.methodLinkNest R_Ed q.1 q.2 R_Ed) U
theorem NW.warm {s U : State} (hW : s.WarmedH U.vm) (h : NW s) : NW U := ⟨fun q hq => va_Nw.warmF hW (h.1 q hq), fun q hq => va_Nw.warmM hW (h.2 q hq)⟩
theorem NW.same {u U : State} (hv : u.vm = U.vm) (h : NW u) : NW U := ⟨fun q hq => va_Nw.same rfl hv (h.1 q hq), fun q hq => va_Nw.same rfl hv (h.2 q hq)⟩
theorem NW.of {args : Array Value} {s : State} (h : ∀ w ∈ lw_tbl, w.before args s = true) : NW s := ⟨fun q hq => va_Nw.of rfl (h _ ((by decide +kernel : ∀ q ∈ nF, Cond.fieldLinkNest R_Ed q.1 q.2.1 q.2.2.1 q.2.2.2 R_Ed ∈ lw_tbl) q hq)), fun q hq => va_Nw.of rfl (h _ ((by decide +kernel : ∀ q ∈ nM, Cond.methodLinkNest R_Ed q.1 q.2 R_Ed ∈ lw_tbl) q hq))⟩
theorem f_Ed_38 {U : State} {args : Array Value} (h : NW U) : (Cond.fieldLinkNest R_Ed 38 R_Tb "arrows" "[B" R_Ed).before args U = true := va_Nw.use rfl (h.1 _ (List.mem_of_getElem? (i := 0) rfl))
theorem f_Ed_42 {U : State} {args : Array Value} (h : NW U) : (Cond.fieldLinkNest R_Ed 42 R_Tb "kinds" "[B" R_Ed).before args U = true := va_Nw.use rfl (h.1 _ (List.mem_of_getElem? (i := 1) rfl))
theorem f_Ed_88 {U : State} {args : Array Value} (h : NW U) : (Cond.fieldLinkNest R_Ed 88 R_Sy "right" "I" R_Ed).before args U = true := va_Nw.use rfl (h.1 _ (List.mem_of_getElem? (i := 2) rfl))
theorem f_Ed_108 {U : State} {args : Array Value} (h : NW U) : (Cond.fieldLinkNest R_Ed 108 R_Sn "places" "[I" R_Ed).before args U = true := va_Nw.use rfl (h.1 _ (List.mem_of_getElem? (i := 3) rfl))
theorem f_Ed_126 {U : State} {args : Array Value} (h : NW U) : (Cond.fieldLinkNest R_Ed 126 R_Sn "sizes" "[S" R_Ed).before args U = true := va_Nw.use rfl (h.1 _ (List.mem_of_getElem? (i := 4) rfl))
theorem f_Ed_74 {U : State} {args : Array Value} (h : NW U) : (Cond.fieldLinkNest R_Ed 74 R_Sn "looks" "[S" R_Ed).before args U = true := va_Nw.use rfl (h.1 _ (List.mem_of_getElem? (i := 5) rfl))
theorem f_Ed_118 {U : State} {args : Array Value} (h : NW U) : (Cond.fieldLinkNest R_Ed 118 R_Sn "kinds" "[B" R_Ed).before args U = true := va_Nw.use rfl (h.1 _ (List.mem_of_getElem? (i := 6) rfl))
theorem f_Ed_107 {U : State} {args : Array Value} (h : NW U) : (Cond.fieldLinkNest R_Ed 107 R_Sn "right" "I" R_Ed).before args U = true := va_Nw.use rfl (h.1 _ (List.mem_of_getElem? (i := 7) rfl))
theorem f_Ed_18 {U : State} (h : NW U) : va_Nw (.methodLinkNest R_Ed 18 y_Sy_init R_Ed) U := h.2 _ (List.mem_of_getElem? (i := 0) rfl)
theorem f_Ed_25 {U : State} (h : NW U) : va_Nw (.methodLinkNest R_Ed 25 y_Sn_init R_Ed) U := h.2 _ (List.mem_of_getElem? (i := 1) rfl)
theorem f_Ed_78 {U : State} (h : NW U) : va_Nw (.methodLinkNest R_Ed 78 y_Sn_slot R_Ed) U := h.2 _ (List.mem_of_getElem? (i := 2) rfl)
def vW (own : String) (idx : Nat) (C : String) (y : MethodName) (b : ByteArray) (maxL : Nat) (rt : Option FieldType) (n : Nat) : Prop := Cond.methodLink own idx y ∈ gW ∧ Cond.instanceMethod y ∈ gW ∧ Cond.selects C y y ∈ gW ∧ Cond.initialized C ∈ gW ∧ Cond.code y b maxL rt ∈ gW ∧ (y.cls = C ∧ y.cls ≠ "java/lang/invoke/MethodHandle" ∧ y.cls ≠ "java/lang/invoke/VarHandle" ∧ (parseMethodDescriptor y.desc).map (fun d => d.parameters.length) = some n)
def vS (own : String) (idx : Nat) (y : MethodName) (b : ByteArray) (maxL : Nat) (rt : Option FieldType) (n : Nat) : Prop := Cond.methodLink own idx y ∈ gW ∧ Cond.static y ∈ gW ∧ Cond.initialized own ∈ gW ∧ Cond.code y b maxL rt ∈ gW ∧ (y.cls = own ∧ y.cls ≠ "java/lang/invoke/MethodHandle" ∧ y.cls ≠ "java/lang/invoke/VarHandle" ∧ (parseMethodDescriptor y.desc).map (fun d => d.parameters.length) = some n)
def vI (own : String) (idx : Nat) (y : MethodName) (b : ByteArray) (maxL : Nat) (n : Nat) : Prop := Cond.methodLink own idx y ∈ gW ∧ Cond.instanceMethod y ∈ gW ∧ Cond.initialized y.cls ∈ gW ∧ Cond.code y b maxL none ∈ gW ∧ y.name = "<init>" ∧ (y.cls ≠ "java/lang/invoke/MethodHandle" ∧ y.cls ≠ "java/lang/invoke/VarHandle" ∧ (parseMethodDescriptor y.desc).map (fun d => d.parameters.length) = some n)
theorem v_law_9 : vI R_law 9 y_Ed_init b_Ed_init 1 0 := ⟨m_ml_law_9, m_im_Ed_init, m_in_Ed, m_co_Ed_init, rfl, by decide +kernel⟩
theorem v_Ed_9 : vI R_Ed 9 y_Tb_init b_Tb_init 1 0 := ⟨m_ml_Ed_9, m_im_Tb_init, m_in_Tb, m_co_Tb_init, rfl, by decide +kernel⟩
theorem v_Tb_16 : vW R_Tb 16 R_Tb y_Tb_clear b_Tb_clear 2 none 0 := ⟨m_ml_Tb_16, m_im_Tb_clear, m_se_Tb_clear, m_in_Tb, m_co_Tb_clear, by decide +kernel⟩
theorem v_law_13 : vW R_law 13 R_Ed y_Ed_arrow b_Ed_arrow 4 (some .boolean) 3 := ⟨m_ml_law_13, m_im_Ed_arrow, m_se_Ed_arrow, m_in_Ed, m_co_Ed_arrow, by decide +kernel⟩
theorem v_Ed_30 : vS R_Ed 30 y_Ed_isState b_Ed_isState 1 (some .boolean) 1 := ⟨m_ml_Ed_30, m_st_Ed_isState, m_in_Ed, m_co_Ed_isState, by decide +kernel⟩
theorem v_Ed_34 : vW R_Ed 34 R_Sy y_Sy_size b_Sy_size 1 (some .int) 0 := ⟨m_ml_Ed_34, m_im_Sy_size, m_se_Sy_size, m_in_Sy, m_co_Sy_size, by decide +kernel⟩
theorem v_law_18 : vW R_law 18 R_Ed y_Ed_kind b_Ed_kind 3 (some .boolean) 2 := ⟨m_ml_law_18, m_im_Ed_kind, m_se_Ed_kind, m_in_Ed, m_co_Ed_kind, by decide +kernel⟩
theorem v_law_25 : vW R_law 25 R_Ed y_Ed_edit b_Ed_edit 11 (some .int) 4 := ⟨m_ml_law_25, m_im_Ed_edit, m_se_Ed_edit, m_in_Ed, m_co_Ed_edit, by decide +kernel⟩
theorem v_Ed_66 : vS R_Ed 66 y_Ed_areSymbols b_Ed_areSymbols 5 (some .boolean) 2 := ⟨m_ml_Ed_66, m_st_Ed_areSymbols, m_in_Ed, m_co_Ed_areSymbols, by decide +kernel⟩
theorem v_Ed_70 : vW R_Ed 70 R_Sn y_Sn_size b_Sn_size 1 (some .int) 0 := ⟨m_ml_Ed_70, m_im_Sn_size, m_se_Sn_size, m_in_Sn, m_co_Sn_size, by decide +kernel⟩
theorem v_Ed_71 : vW R_Ed 71 R_Sn y_Sn_place b_Sn_place 3 (some .int) 2 := ⟨m_ml_Ed_71, m_im_Sn_place, m_se_Sn_place, m_in_Sn, m_co_Sn_place, by decide +kernel⟩
theorem v_Sn_31 : vW R_Sn 31 R_Sn y_Sn_slot b_Sn_slot 2 (some .int) 1 := ⟨m_ml_Sn_31, m_im_Sn_slot, m_se_Sn_slot, m_in_Sn, m_co_Sn_slot, by decide +kernel⟩
theorem v_Ed_81 : vW R_Ed 81 R_Sn y_Sn_go b_Sn_go 3 none 2 := ⟨m_ml_Ed_81, m_im_Sn_go, m_se_Sn_go, m_in_Sn, m_co_Sn_go, by decide +kernel⟩
theorem v_Sn_35 : vW R_Sn 35 R_Sn y_Sn_move b_Sn_move 4 none 3 := ⟨m_ml_Sn_35, m_im_Sn_move, m_se_Sn_move, m_in_Sn, m_co_Sn_move, by decide +kernel⟩
theorem v_Ed_85 : vW R_Ed 85 R_Sy y_Sy_go b_Sy_go 2 none 1 := ⟨m_ml_Ed_85, m_im_Sy_go, m_se_Sy_go, m_in_Sy, m_co_Sy_go, by decide +kernel⟩
theorem v_Ed_91 : vW R_Ed 91 R_Sy y_Sy_put b_Sy_put 2 none 1 := ⟨m_ml_Ed_91, m_im_Sy_put, m_se_Sy_put, m_in_Sy, m_co_Sy_put, by decide +kernel⟩
theorem v_Ed_100 : vW R_Ed 100 R_Ed y_Ed_rescan b_Ed_rescan 8 none 3 := ⟨m_ml_Ed_100, m_im_Ed_rescan, m_se_Ed_rescan, m_in_Ed, m_co_Ed_rescan, by decide +kernel⟩
theorem v_Ed_112 : vW R_Ed 112 R_Ed y_Ed_scan b_Ed_scan 3 none 1 := ⟨m_ml_Ed_112, m_im_Ed_scan, m_se_Ed_scan, m_in_Ed, m_co_Ed_scan, by decide +kernel⟩
theorem v_Ed_54 : vW R_Ed 54 R_Sy y_Sy_at b_Sy_at 2 (some .int) 1 := ⟨m_ml_Ed_54, m_im_Sy_at, m_se_Sy_at, m_in_Sy, m_co_Sy_at, by decide +kernel⟩
theorem v_Sy_20 : vW R_Sy 20 R_Sy y_Sy_size b_Sy_size 1 (some .int) 0 := ⟨m_ml_Sy_20, m_im_Sy_size, m_se_Sy_size, m_in_Sy, m_co_Sy_size, by decide +kernel⟩
theorem v_Ed_58 : vW R_Ed 58 R_Tb y_Tb_next b_Tb_next 3 (some .int) 2 := ⟨m_ml_Ed_58, m_im_Tb_next, m_se_Tb_next, m_in_Tb, m_co_Tb_next, by decide +kernel⟩
theorem v_Ed_115 : vW R_Ed 115 R_Sn y_Sn_put b_Sn_put 5 none 4 := ⟨m_ml_Ed_115, m_im_Sn_put, m_se_Sn_put, m_in_Sn, m_co_Sn_put, by decide +kernel⟩
theorem v_law_30 : vW R_law 30 R_Ed y_Ed_token b_Ed_token 4 (some .int) 2 := ⟨m_ml_law_30, m_im_Ed_token, m_se_Ed_token, m_in_Ed, m_co_Ed_token, by decide +kernel⟩
theorem v_Ed_123 : vW R_Ed 123 R_Ed y_Ed_tokens b_Ed_tokens 1 (some .int) 0 := ⟨m_ml_Ed_123, m_im_Ed_tokens, m_se_Ed_tokens, m_in_Ed, m_co_Ed_tokens, by decide +kernel⟩
theorem v_Ed_119 : vW R_Ed 119 R_Ed y_Ed_isFailed b_Ed_isFailed 1 (some .boolean) 0 := ⟨m_ml_Ed_119, m_im_Ed_isFailed, m_se_Ed_isFailed, m_in_Ed, m_co_Ed_isFailed, by decide +kernel⟩
theorem v_law_35 : vW R_law 35 R_Ed y_Ed_tokenAt b_Ed_tokenAt 5 (some .int) 1 := ⟨m_ml_law_35, m_im_Ed_tokenAt, m_se_Ed_tokenAt, m_in_Ed, m_co_Ed_tokenAt, by decide +kernel⟩
theorem v_law_40 : vW R_law 40 R_Ed y_Ed_symbol b_Ed_symbol 2 (some .int) 1 := ⟨m_ml_law_40, m_im_Ed_symbol, m_se_Ed_symbol, m_in_Ed, m_co_Ed_symbol, by decide +kernel⟩
theorem v_law_44 : vW R_law 44 R_Ed y_Ed_count b_Ed_count 3 (some .int) 1 := ⟨m_ml_law_44, m_im_Ed_count, m_se_Ed_count, m_in_Ed, m_co_Ed_count, by decide +kernel⟩
theorem v_law_48 : vW R_law 48 R_Ed y_Ed_clear b_Ed_clear 2 (some .int) 0 := ⟨m_ml_law_48, m_im_Ed_clear, m_se_Ed_clear, m_in_Ed, m_co_Ed_clear, by decide +kernel⟩
theorem v_Ed_129 : vW R_Ed 129 R_Sy y_Sy_clear b_Sy_clear 1 none 0 := ⟨m_ml_Ed_129, m_im_Sy_clear, m_se_Sy_clear, m_in_Sy, m_co_Sy_clear, by decide +kernel⟩
theorem v_Ed_132 : vW R_Ed 132 R_Sn y_Sn_clear b_Sn_clear 1 none 0 := ⟨m_ml_Ed_132, m_im_Sn_clear, m_se_Sn_clear, m_in_Sn, m_co_Sn_clear, by decide +kernel⟩
theorem v_Ed_133 : vW R_Ed 133 R_Tb y_Tb_clear b_Tb_clear 2 none 0 := ⟨m_ml_Ed_133, m_im_Tb_clear, m_se_Tb_clear, m_in_Tb, m_co_Tb_clear, by decide +kernel⟩
theorem v_law_12 : vI R_law 12 y_Mo_init b_Mo_init 1 0 := ⟨m_ml_law_12, m_im_Mo_init, m_in_Mo, m_co_Mo_init, rfl, by decide +kernel⟩
theorem v_Mo_38 : vW R_Mo 38 R_Mo y_Mo_forget b_Mo_forget 2 none 0 := ⟨m_ml_Mo_38, m_im_Mo_forget, m_se_Mo_forget, m_in_Mo, m_co_Mo_forget, by decide +kernel⟩
theorem v_law_17 : vW R_law 17 R_Mo y_Mo_arrow b_Mo_arrow 4 (some .boolean) 3 := ⟨m_ml_law_17, m_im_Mo_arrow, m_se_Mo_arrow, m_in_Mo, m_co_Mo_arrow, by decide +kernel⟩
theorem v_law_22 : vW R_law 22 R_Mo y_Mo_kind b_Mo_kind 3 (some .boolean) 2 := ⟨m_ml_law_22, m_im_Mo_kind, m_se_Mo_kind, m_in_Mo, m_co_Mo_kind, by decide +kernel⟩
theorem v_law_29 : vW R_law 29 R_Mo y_Mo_edit b_Mo_edit 9 (some .int) 4 := ⟨m_ml_law_29, m_im_Mo_edit, m_se_Mo_edit, m_in_Mo, m_co_Mo_edit, by decide +kernel⟩
theorem v_Mo_85 : vW R_Mo 85 R_Mo y_Mo_change b_Mo_change 8 none 4 := ⟨m_ml_Mo_85, m_im_Mo_change, m_se_Mo_change, m_in_Mo, m_co_Mo_change, by decide +kernel⟩
theorem v_Mo_89 : vW R_Mo 89 R_Mo y_Mo_goOver b_Mo_goOver 7 none 4 := ⟨m_ml_Mo_89, m_im_Mo_goOver, m_se_Mo_goOver, m_in_Mo, m_co_Mo_goOver, by decide +kernel⟩
theorem v_Mo_96 : vW R_Mo 96 R_Mo y_Mo_began b_Mo_began 4 (some .boolean) 1 := ⟨m_ml_Mo_96, m_im_Mo_began, m_se_Mo_began, m_in_Mo, m_co_Mo_began, by decide +kernel⟩
theorem v_Mo_68 : vW R_Mo 68 R_Mo y_Mo_scan b_Mo_scan 4 (some .boolean) 1 := ⟨m_ml_Mo_68, m_im_Mo_scan, m_se_Mo_scan, m_in_Mo, m_co_Mo_scan, by decide +kernel⟩
theorem v_Mo_93 : vW R_Mo 93 R_Mo y_Mo_scanAll b_Mo_scanAll 2 none 0 := ⟨m_ml_Mo_93, m_im_Mo_scanAll, m_se_Mo_scanAll, m_in_Mo, m_co_Mo_scanAll, by decide +kernel⟩
theorem v_law_34 : vW R_law 34 R_Mo y_Mo_token b_Mo_token 3 (some .int) 2 := ⟨m_ml_law_34, m_im_Mo_token, m_se_Mo_token, m_in_Mo, m_co_Mo_token, by decide +kernel⟩
theorem v_law_39 : vW R_law 39 R_Mo y_Mo_tokenAt b_Mo_tokenAt 4 (some .int) 1 := ⟨m_ml_law_39, m_im_Mo_tokenAt, m_se_Mo_tokenAt, m_in_Mo, m_co_Mo_tokenAt, by decide +kernel⟩
theorem v_law_43 : vW R_law 43 R_Mo y_Mo_symbol b_Mo_symbol 2 (some .int) 1 := ⟨m_ml_law_43, m_im_Mo_symbol, m_se_Mo_symbol, m_in_Mo, m_co_Mo_symbol, by decide +kernel⟩
theorem v_law_47 : vW R_law 47 R_Mo y_Mo_count b_Mo_count 2 (some .int) 1 := ⟨m_ml_law_47, m_im_Mo_count, m_se_Mo_count, m_in_Mo, m_co_Mo_count, by decide +kernel⟩
theorem v_law_52 : vW R_law 52 R_Mo y_Mo_clear b_Mo_clear 2 (some .int) 0 := ⟨m_ml_law_52, m_im_Mo_clear, m_se_Mo_clear, m_in_Mo, m_co_Mo_clear, by decide +kernel⟩
end
section
theorem d_Sn_init_0 : decode b_Sn_init 0 = .ok (.aload_n 0, 1) := by decide +kernel
theorem d_Sn_init_1 : decode b_Sn_init 1 = .ok (.invokespecial 1, 3) := by decide +kernel
theorem d_Sn_init_4 : decode b_Sn_init 4 = .ok (.aload_n 0, 1) := by decide +kernel
theorem d_Sn_init_5 : decode b_Sn_init 5 = .ok (.sipush 401, 3) := by decide +kernel
theorem d_Sn_init_8 : decode b_Sn_init 8 = .ok (.newarray .int, 2) := by decide +kernel
theorem d_Sn_init_10 : decode b_Sn_init 10 = .ok (.putfield 9, 3) := by decide +kernel
theorem d_Sn_init_13 : decode b_Sn_init 13 = .ok (.aload_n 0, 1) := by decide +kernel
theorem d_Sn_init_14 : decode b_Sn_init 14 = .ok (.sipush 401, 3) := by decide +kernel
theorem d_Sn_init_17 : decode b_Sn_init 17 = .ok (.newarray .short, 2) := by decide +kernel
theorem d_Sn_init_19 : decode b_Sn_init 19 = .ok (.putfield 13, 3) := by decide +kernel
theorem d_Sn_init_22 : decode b_Sn_init 22 = .ok (.aload_n 0, 1) := by decide +kernel
theorem d_Sn_init_23 : decode b_Sn_init 23 = .ok (.sipush 401, 3) := by decide +kernel
theorem d_Sn_init_26 : decode b_Sn_init 26 = .ok (.newarray .short, 2) := by decide +kernel
theorem d_Sn_init_28 : decode b_Sn_init 28 = .ok (.putfield 17, 3) := by decide +kernel
theorem d_Sn_init_31 : decode b_Sn_init 31 = .ok (.aload_n 0, 1) := by decide +kernel
theorem d_Sn_init_32 : decode b_Sn_init 32 = .ok (.sipush 401, 3) := by decide +kernel
theorem d_Sn_init_35 : decode b_Sn_init 35 = .ok (.newarray .byte, 2) := by decide +kernel
theorem d_Sn_init_37 : decode b_Sn_init 37 = .ok (.putfield 20, 3) := by decide +kernel
theorem d_Sn_init_40 : decode b_Sn_init 40 = .ok (.aload_n 0, 1) := by decide +kernel
theorem d_Sn_init_41 : decode b_Sn_init 41 = .ok (.sipush 401, 3) := by decide +kernel
theorem d_Sn_init_44 : decode b_Sn_init 44 = .ok (.putfield 24, 3) := by decide +kernel
theorem d_Sn_init_47 : decode b_Sn_init 47 = .ok (.return_, 1) := by decide +kernel
theorem d_Sn_size_0 : decode b_Sn_size 0 = .ok (.aload_n 0, 1) := by decide +kernel
theorem d_Sn_size_1 : decode b_Sn_size 1 = .ok (.getfield 28, 3) := by decide +kernel
theorem d_Sn_size_4 : decode b_Sn_size 4 = .ok (.sipush 401, 3) := by decide +kernel
theorem d_Sn_size_7 : decode b_Sn_size 7 = .ok (.iadd, 1) := by decide +kernel
theorem d_Sn_size_8 : decode b_Sn_size 8 = .ok (.aload_n 0, 1) := by decide +kernel
theorem d_Sn_size_9 : decode b_Sn_size 9 = .ok (.getfield 24, 3) := by decide +kernel
theorem d_Sn_size_12 : decode b_Sn_size 12 = .ok (.isub, 1) := by decide +kernel
theorem d_Sn_size_13 : decode b_Sn_size 13 = .ok (.ireturn, 1) := by decide +kernel
theorem d_Sn_slot_0 : decode b_Sn_slot 0 = .ok (.iload_n 1, 1) := by decide +kernel
theorem d_Sn_slot_1 : decode b_Sn_slot 1 = .ok (.aload_n 0, 1) := by decide +kernel
theorem d_Sn_slot_2 : decode b_Sn_slot 2 = .ok (.getfield 28, 3) := by decide +kernel
theorem d_Sn_slot_5 : decode b_Sn_slot 5 = .ok (.if_icmp .ge 7, 3) := by decide +kernel
theorem d_Sn_slot_8 : decode b_Sn_slot 8 = .ok (.iload_n 1, 1) := by decide +kernel
theorem d_Sn_slot_9 : decode b_Sn_slot 9 = .ok (.goto 14, 3) := by decide +kernel
theorem d_Sn_slot_12 : decode b_Sn_slot 12 = .ok (.iload_n 1, 1) := by decide +kernel
theorem d_Sn_slot_13 : decode b_Sn_slot 13 = .ok (.aload_n 0, 1) := by decide +kernel
theorem d_Sn_slot_14 : decode b_Sn_slot 14 = .ok (.getfield 28, 3) := by decide +kernel
theorem d_Sn_slot_17 : decode b_Sn_slot 17 = .ok (.isub, 1) := by decide +kernel
theorem d_Sn_slot_18 : decode b_Sn_slot 18 = .ok (.aload_n 0, 1) := by decide +kernel
theorem d_Sn_slot_19 : decode b_Sn_slot 19 = .ok (.getfield 24, 3) := by decide +kernel
theorem d_Sn_slot_22 : decode b_Sn_slot 22 = .ok (.iadd, 1) := by decide +kernel
theorem d_Sn_slot_23 : decode b_Sn_slot 23 = .ok (.ireturn, 1) := by decide +kernel
theorem d_Sn_place_0 : decode b_Sn_place 0 = .ok (.iload_n 1, 1) := by decide +kernel
theorem d_Sn_place_1 : decode b_Sn_place 1 = .ok (.aload_n 0, 1) := by decide +kernel
theorem d_Sn_place_2 : decode b_Sn_place 2 = .ok (.getfield 28, 3) := by decide +kernel
theorem d_Sn_place_5 : decode b_Sn_place 5 = .ok (.if_icmp .ge 12, 3) := by decide +kernel
theorem d_Sn_place_8 : decode b_Sn_place 8 = .ok (.aload_n 0, 1) := by decide +kernel
theorem d_Sn_place_9 : decode b_Sn_place 9 = .ok (.getfield 9, 3) := by decide +kernel
theorem d_Sn_place_12 : decode b_Sn_place 12 = .ok (.iload_n 1, 1) := by decide +kernel
theorem d_Sn_place_13 : decode b_Sn_place 13 = .ok (.iaload, 1) := by decide +kernel
theorem d_Sn_place_14 : decode b_Sn_place 14 = .ok (.goto 15, 3) := by decide +kernel
theorem d_Sn_place_17 : decode b_Sn_place 17 = .ok (.iload_n 2, 1) := by decide +kernel
theorem d_Sn_place_18 : decode b_Sn_place 18 = .ok (.aload_n 0, 1) := by decide +kernel
theorem d_Sn_place_19 : decode b_Sn_place 19 = .ok (.getfield 9, 3) := by decide +kernel
theorem d_Sn_place_22 : decode b_Sn_place 22 = .ok (.aload_n 0, 1) := by decide +kernel
theorem d_Sn_place_23 : decode b_Sn_place 23 = .ok (.iload_n 1, 1) := by decide +kernel
theorem d_Sn_place_24 : decode b_Sn_place 24 = .ok (.invokevirtual 31, 3) := by decide +kernel
theorem d_Sn_place_27 : decode b_Sn_place 27 = .ok (.iaload, 1) := by decide +kernel
theorem d_Sn_place_28 : decode b_Sn_place 28 = .ok (.isub, 1) := by decide +kernel
theorem d_Sn_place_29 : decode b_Sn_place 29 = .ok (.ireturn, 1) := by decide +kernel
theorem d_Sn_go_0 : decode b_Sn_go 0 = .ok (.aload_n 0, 1) := by decide +kernel
theorem d_Sn_go_1 : decode b_Sn_go 1 = .ok (.getfield 28, 3) := by decide +kernel
theorem d_Sn_go_4 : decode b_Sn_go 4 = .ok (.iload_n 1, 1) := by decide +kernel
theorem d_Sn_go_5 : decode b_Sn_go 5 = .ok (.if_icmp .le 49, 3) := by decide +kernel
theorem d_Sn_go_8 : decode b_Sn_go 8 = .ok (.aload_n 0, 1) := by decide +kernel
theorem d_Sn_go_9 : decode b_Sn_go 9 = .ok (.dup, 1) := by decide +kernel
theorem d_Sn_go_10 : decode b_Sn_go 10 = .ok (.getfield 28, 3) := by decide +kernel
theorem d_Sn_go_13 : decode b_Sn_go 13 = .ok (.iconst 1, 1) := by decide +kernel
theorem d_Sn_go_14 : decode b_Sn_go 14 = .ok (.isub, 1) := by decide +kernel
theorem d_Sn_go_15 : decode b_Sn_go 15 = .ok (.putfield 28, 3) := by decide +kernel
theorem d_Sn_go_18 : decode b_Sn_go 18 = .ok (.aload_n 0, 1) := by decide +kernel
theorem d_Sn_go_19 : decode b_Sn_go 19 = .ok (.dup, 1) := by decide +kernel
theorem d_Sn_go_20 : decode b_Sn_go 20 = .ok (.getfield 24, 3) := by decide +kernel
theorem d_Sn_go_23 : decode b_Sn_go 23 = .ok (.iconst 1, 1) := by decide +kernel
theorem d_Sn_go_24 : decode b_Sn_go 24 = .ok (.isub, 1) := by decide +kernel
theorem d_Sn_go_25 : decode b_Sn_go 25 = .ok (.putfield 24, 3) := by decide +kernel
theorem d_Sn_go_28 : decode b_Sn_go 28 = .ok (.aload_n 0, 1) := by decide +kernel
theorem d_Sn_go_29 : decode b_Sn_go 29 = .ok (.aload_n 0, 1) := by decide +kernel
theorem d_Sn_go_30 : decode b_Sn_go 30 = .ok (.getfield 28, 3) := by decide +kernel
theorem d_Sn_go_33 : decode b_Sn_go 33 = .ok (.aload_n 0, 1) := by decide +kernel
theorem d_Sn_go_34 : decode b_Sn_go 34 = .ok (.getfield 24, 3) := by decide +kernel
theorem d_Sn_go_37 : decode b_Sn_go 37 = .ok (.iload_n 2, 1) := by decide +kernel
theorem d_Sn_go_38 : decode b_Sn_go 38 = .ok (.aload_n 0, 1) := by decide +kernel
theorem d_Sn_go_39 : decode b_Sn_go 39 = .ok (.getfield 9, 3) := by decide +kernel
theorem d_Sn_go_42 : decode b_Sn_go 42 = .ok (.aload_n 0, 1) := by decide +kernel
theorem d_Sn_go_43 : decode b_Sn_go 43 = .ok (.getfield 28, 3) := by decide +kernel
theorem d_Sn_go_46 : decode b_Sn_go 46 = .ok (.iaload, 1) := by decide +kernel
theorem d_Sn_go_47 : decode b_Sn_go 47 = .ok (.isub, 1) := by decide +kernel
theorem d_Sn_go_48 : decode b_Sn_go 48 = .ok (.invokevirtual 35, 3) := by decide +kernel
theorem d_Sn_go_51 : decode b_Sn_go 51 = .ok (.goto (-51), 3) := by decide +kernel
theorem d_Sn_go_54 : decode b_Sn_go 54 = .ok (.aload_n 0, 1) := by decide +kernel
theorem d_Sn_go_55 : decode b_Sn_go 55 = .ok (.getfield 28, 3) := by decide +kernel
theorem d_Sn_go_58 : decode b_Sn_go 58 = .ok (.iload_n 1, 1) := by decide +kernel
theorem d_Sn_go_59 : decode b_Sn_go 59 = .ok (.if_icmp .ge 49, 3) := by decide +kernel
theorem d_Sn_go_62 : decode b_Sn_go 62 = .ok (.aload_n 0, 1) := by decide +kernel
theorem d_Sn_go_63 : decode b_Sn_go 63 = .ok (.aload_n 0, 1) := by decide +kernel
theorem d_Sn_go_64 : decode b_Sn_go 64 = .ok (.getfield 24, 3) := by decide +kernel
theorem d_Sn_go_67 : decode b_Sn_go 67 = .ok (.aload_n 0, 1) := by decide +kernel
theorem d_Sn_go_68 : decode b_Sn_go 68 = .ok (.getfield 28, 3) := by decide +kernel
theorem d_Sn_go_71 : decode b_Sn_go 71 = .ok (.iload_n 2, 1) := by decide +kernel
theorem d_Sn_go_72 : decode b_Sn_go 72 = .ok (.aload_n 0, 1) := by decide +kernel
theorem d_Sn_go_73 : decode b_Sn_go 73 = .ok (.getfield 9, 3) := by decide +kernel
theorem d_Sn_go_76 : decode b_Sn_go 76 = .ok (.aload_n 0, 1) := by decide +kernel
theorem d_Sn_go_77 : decode b_Sn_go 77 = .ok (.getfield 24, 3) := by decide +kernel
theorem d_Sn_go_80 : decode b_Sn_go 80 = .ok (.iaload, 1) := by decide +kernel
theorem d_Sn_go_81 : decode b_Sn_go 81 = .ok (.isub, 1) := by decide +kernel
theorem d_Sn_go_82 : decode b_Sn_go 82 = .ok (.invokevirtual 35, 3) := by decide +kernel
theorem d_Sn_go_85 : decode b_Sn_go 85 = .ok (.aload_n 0, 1) := by decide +kernel
theorem d_Sn_go_86 : decode b_Sn_go 86 = .ok (.dup, 1) := by decide +kernel
theorem d_Sn_go_87 : decode b_Sn_go 87 = .ok (.getfield 28, 3) := by decide +kernel
theorem d_Sn_go_90 : decode b_Sn_go 90 = .ok (.iconst 1, 1) := by decide +kernel
theorem d_Sn_go_91 : decode b_Sn_go 91 = .ok (.iadd, 1) := by decide +kernel
theorem d_Sn_go_92 : decode b_Sn_go 92 = .ok (.putfield 28, 3) := by decide +kernel
theorem d_Sn_go_95 : decode b_Sn_go 95 = .ok (.aload_n 0, 1) := by decide +kernel
theorem d_Sn_go_96 : decode b_Sn_go 96 = .ok (.dup, 1) := by decide +kernel
theorem d_Sn_go_97 : decode b_Sn_go 97 = .ok (.getfield 24, 3) := by decide +kernel
theorem d_Sn_go_100 : decode b_Sn_go 100 = .ok (.iconst 1, 1) := by decide +kernel
theorem d_Sn_go_101 : decode b_Sn_go 101 = .ok (.iadd, 1) := by decide +kernel
theorem d_Sn_go_102 : decode b_Sn_go 102 = .ok (.putfield 24, 3) := by decide +kernel
theorem d_Sn_go_105 : decode b_Sn_go 105 = .ok (.goto (-51), 3) := by decide +kernel
theorem d_Sn_go_108 : decode b_Sn_go 108 = .ok (.return_, 1) := by decide +kernel
theorem d_Sn_move_0 : decode b_Sn_move 0 = .ok (.aload_n 0, 1) := by decide +kernel
theorem d_Sn_move_1 : decode b_Sn_move 1 = .ok (.getfield 9, 3) := by decide +kernel
theorem d_Sn_move_4 : decode b_Sn_move 4 = .ok (.iload_n 2, 1) := by decide +kernel
theorem d_Sn_move_5 : decode b_Sn_move 5 = .ok (.iload_n 3, 1) := by decide +kernel
theorem d_Sn_move_6 : decode b_Sn_move 6 = .ok (.iastore, 1) := by decide +kernel
theorem d_Sn_move_7 : decode b_Sn_move 7 = .ok (.aload_n 0, 1) := by decide +kernel
theorem d_Sn_move_8 : decode b_Sn_move 8 = .ok (.getfield 13, 3) := by decide +kernel
theorem d_Sn_move_11 : decode b_Sn_move 11 = .ok (.iload_n 2, 1) := by decide +kernel
theorem d_Sn_move_12 : decode b_Sn_move 12 = .ok (.aload_n 0, 1) := by decide +kernel
theorem d_Sn_move_13 : decode b_Sn_move 13 = .ok (.getfield 13, 3) := by decide +kernel
theorem d_Sn_move_16 : decode b_Sn_move 16 = .ok (.iload_n 1, 1) := by decide +kernel
theorem d_Sn_move_17 : decode b_Sn_move 17 = .ok (.saload, 1) := by decide +kernel
theorem d_Sn_move_18 : decode b_Sn_move 18 = .ok (.sastore, 1) := by decide +kernel
theorem d_Sn_move_19 : decode b_Sn_move 19 = .ok (.aload_n 0, 1) := by decide +kernel
theorem d_Sn_move_20 : decode b_Sn_move 20 = .ok (.getfield 17, 3) := by decide +kernel
theorem d_Sn_move_23 : decode b_Sn_move 23 = .ok (.iload_n 2, 1) := by decide +kernel
theorem d_Sn_move_24 : decode b_Sn_move 24 = .ok (.aload_n 0, 1) := by decide +kernel
theorem d_Sn_move_25 : decode b_Sn_move 25 = .ok (.getfield 17, 3) := by decide +kernel
theorem d_Sn_move_28 : decode b_Sn_move 28 = .ok (.iload_n 1, 1) := by decide +kernel
theorem d_Sn_move_29 : decode b_Sn_move 29 = .ok (.saload, 1) := by decide +kernel
theorem d_Sn_move_30 : decode b_Sn_move 30 = .ok (.sastore, 1) := by decide +kernel
theorem d_Sn_move_31 : decode b_Sn_move 31 = .ok (.aload_n 0, 1) := by decide +kernel
theorem d_Sn_move_32 : decode b_Sn_move 32 = .ok (.getfield 20, 3) := by decide +kernel
theorem d_Sn_move_35 : decode b_Sn_move 35 = .ok (.iload_n 2, 1) := by decide +kernel
theorem d_Sn_move_36 : decode b_Sn_move 36 = .ok (.aload_n 0, 1) := by decide +kernel
theorem d_Sn_move_37 : decode b_Sn_move 37 = .ok (.getfield 20, 3) := by decide +kernel
theorem d_Sn_move_40 : decode b_Sn_move 40 = .ok (.iload_n 1, 1) := by decide +kernel
theorem d_Sn_move_41 : decode b_Sn_move 41 = .ok (.baload, 1) := by decide +kernel
theorem d_Sn_move_42 : decode b_Sn_move 42 = .ok (.bastore, 1) := by decide +kernel
theorem d_Sn_move_43 : decode b_Sn_move 43 = .ok (.return_, 1) := by decide +kernel
theorem d_Sn_put_0 : decode b_Sn_put 0 = .ok (.aload_n 0, 1) := by decide +kernel
theorem d_Sn_put_1 : decode b_Sn_put 1 = .ok (.getfield 9, 3) := by decide +kernel
theorem d_Sn_put_4 : decode b_Sn_put 4 = .ok (.aload_n 0, 1) := by decide +kernel
theorem d_Sn_put_5 : decode b_Sn_put 5 = .ok (.getfield 28, 3) := by decide +kernel
theorem d_Sn_put_8 : decode b_Sn_put 8 = .ok (.iload_n 1, 1) := by decide +kernel
theorem d_Sn_put_9 : decode b_Sn_put 9 = .ok (.iastore, 1) := by decide +kernel
theorem d_Sn_put_10 : decode b_Sn_put 10 = .ok (.aload_n 0, 1) := by decide +kernel
theorem d_Sn_put_11 : decode b_Sn_put 11 = .ok (.getfield 13, 3) := by decide +kernel
theorem d_Sn_put_14 : decode b_Sn_put 14 = .ok (.aload_n 0, 1) := by decide +kernel
theorem d_Sn_put_15 : decode b_Sn_put 15 = .ok (.getfield 28, 3) := by decide +kernel
theorem d_Sn_put_18 : decode b_Sn_put 18 = .ok (.iload_n 2, 1) := by decide +kernel
theorem d_Sn_put_19 : decode b_Sn_put 19 = .ok (.i2s, 1) := by decide +kernel
theorem d_Sn_put_20 : decode b_Sn_put 20 = .ok (.sastore, 1) := by decide +kernel
theorem d_Sn_put_21 : decode b_Sn_put 21 = .ok (.aload_n 0, 1) := by decide +kernel
theorem d_Sn_put_22 : decode b_Sn_put 22 = .ok (.getfield 17, 3) := by decide +kernel
theorem d_Sn_put_25 : decode b_Sn_put 25 = .ok (.aload_n 0, 1) := by decide +kernel
theorem d_Sn_put_26 : decode b_Sn_put 26 = .ok (.getfield 28, 3) := by decide +kernel
theorem d_Sn_put_29 : decode b_Sn_put 29 = .ok (.iload_n 3, 1) := by decide +kernel
theorem d_Sn_put_30 : decode b_Sn_put 30 = .ok (.i2s, 1) := by decide +kernel
theorem d_Sn_put_31 : decode b_Sn_put 31 = .ok (.sastore, 1) := by decide +kernel
theorem d_Sn_put_32 : decode b_Sn_put 32 = .ok (.aload_n 0, 1) := by decide +kernel
theorem d_Sn_put_33 : decode b_Sn_put 33 = .ok (.getfield 20, 3) := by decide +kernel
theorem d_Sn_put_36 : decode b_Sn_put 36 = .ok (.aload_n 0, 1) := by decide +kernel
theorem d_Sn_put_37 : decode b_Sn_put 37 = .ok (.getfield 28, 3) := by decide +kernel
theorem d_Sn_put_40 : decode b_Sn_put 40 = .ok (.iload 4, 2) := by decide +kernel
theorem d_Sn_put_42 : decode b_Sn_put 42 = .ok (.i2b, 1) := by decide +kernel
theorem d_Sn_put_43 : decode b_Sn_put 43 = .ok (.bastore, 1) := by decide +kernel
theorem d_Sn_put_44 : decode b_Sn_put 44 = .ok (.aload_n 0, 1) := by decide +kernel
theorem d_Sn_put_45 : decode b_Sn_put 45 = .ok (.dup, 1) := by decide +kernel
theorem d_Sn_put_46 : decode b_Sn_put 46 = .ok (.getfield 28, 3) := by decide +kernel
theorem d_Sn_put_49 : decode b_Sn_put 49 = .ok (.iconst 1, 1) := by decide +kernel
theorem d_Sn_put_50 : decode b_Sn_put 50 = .ok (.iadd, 1) := by decide +kernel
theorem d_Sn_put_51 : decode b_Sn_put 51 = .ok (.putfield 28, 3) := by decide +kernel
theorem d_Sn_put_54 : decode b_Sn_put 54 = .ok (.return_, 1) := by decide +kernel
theorem d_Sn_clear_0 : decode b_Sn_clear 0 = .ok (.aload_n 0, 1) := by decide +kernel
theorem d_Sn_clear_1 : decode b_Sn_clear 1 = .ok (.iconst 0, 1) := by decide +kernel
theorem d_Sn_clear_2 : decode b_Sn_clear 2 = .ok (.putfield 28, 3) := by decide +kernel
theorem d_Sn_clear_5 : decode b_Sn_clear 5 = .ok (.aload_n 0, 1) := by decide +kernel
theorem d_Sn_clear_6 : decode b_Sn_clear 6 = .ok (.sipush 401, 3) := by decide +kernel
theorem d_Sn_clear_9 : decode b_Sn_clear 9 = .ok (.putfield 24, 3) := by decide +kernel
theorem d_Sn_clear_12 : decode b_Sn_clear 12 = .ok (.return_, 1) := by decide +kernel
theorem d_Sy_init_0 : decode b_Sy_init 0 = .ok (.aload_n 0, 1) := by decide +kernel
theorem d_Sy_init_1 : decode b_Sy_init 1 = .ok (.invokespecial 1, 3) := by decide +kernel
theorem d_Sy_init_4 : decode b_Sy_init 4 = .ok (.aload_n 0, 1) := by decide +kernel
theorem d_Sy_init_5 : decode b_Sy_init 5 = .ok (.sipush 400, 3) := by decide +kernel
theorem d_Sy_init_8 : decode b_Sy_init 8 = .ok (.newarray .byte, 2) := by decide +kernel
theorem d_Sy_init_10 : decode b_Sy_init 10 = .ok (.putfield 9, 3) := by decide +kernel
theorem d_Sy_init_13 : decode b_Sy_init 13 = .ok (.aload_n 0, 1) := by decide +kernel
theorem d_Sy_init_14 : decode b_Sy_init 14 = .ok (.sipush 400, 3) := by decide +kernel
theorem d_Sy_init_17 : decode b_Sy_init 17 = .ok (.putfield 13, 3) := by decide +kernel
theorem d_Sy_init_20 : decode b_Sy_init 20 = .ok (.return_, 1) := by decide +kernel
theorem d_Sy_size_0 : decode b_Sy_size 0 = .ok (.aload_n 0, 1) := by decide +kernel
theorem d_Sy_size_1 : decode b_Sy_size 1 = .ok (.getfield 17, 3) := by decide +kernel
theorem d_Sy_size_4 : decode b_Sy_size 4 = .ok (.sipush 400, 3) := by decide +kernel
theorem d_Sy_size_7 : decode b_Sy_size 7 = .ok (.iadd, 1) := by decide +kernel
theorem d_Sy_size_8 : decode b_Sy_size 8 = .ok (.aload_n 0, 1) := by decide +kernel
theorem d_Sy_size_9 : decode b_Sy_size 9 = .ok (.getfield 13, 3) := by decide +kernel
theorem d_Sy_size_12 : decode b_Sy_size 12 = .ok (.isub, 1) := by decide +kernel
theorem d_Sy_size_13 : decode b_Sy_size 13 = .ok (.ireturn, 1) := by decide +kernel
theorem d_Sy_at_0 : decode b_Sy_at 0 = .ok (.iload_n 1, 1) := by decide +kernel
theorem d_Sy_at_1 : decode b_Sy_at 1 = .ok (.ifCond .lt 11, 3) := by decide +kernel
theorem d_Sy_at_4 : decode b_Sy_at 4 = .ok (.iload_n 1, 1) := by decide +kernel
theorem d_Sy_at_5 : decode b_Sy_at 5 = .ok (.aload_n 0, 1) := by decide +kernel
theorem d_Sy_at_6 : decode b_Sy_at 6 = .ok (.invokevirtual 20, 3) := by decide +kernel
theorem d_Sy_at_9 : decode b_Sy_at 9 = .ok (.if_icmp .lt 5, 3) := by decide +kernel
theorem d_Sy_at_12 : decode b_Sy_at 12 = .ok (.iconst (-1), 1) := by decide +kernel
theorem d_Sy_at_13 : decode b_Sy_at 13 = .ok (.ireturn, 1) := by decide +kernel
theorem d_Sy_at_14 : decode b_Sy_at 14 = .ok (.iload_n 1, 1) := by decide +kernel
theorem d_Sy_at_15 : decode b_Sy_at 15 = .ok (.aload_n 0, 1) := by decide +kernel
theorem d_Sy_at_16 : decode b_Sy_at 16 = .ok (.getfield 17, 3) := by decide +kernel
theorem d_Sy_at_19 : decode b_Sy_at 19 = .ok (.if_icmp .ge 12, 3) := by decide +kernel
theorem d_Sy_at_22 : decode b_Sy_at 22 = .ok (.aload_n 0, 1) := by decide +kernel
theorem d_Sy_at_23 : decode b_Sy_at 23 = .ok (.getfield 9, 3) := by decide +kernel
theorem d_Sy_at_26 : decode b_Sy_at 26 = .ok (.iload_n 1, 1) := by decide +kernel
theorem d_Sy_at_27 : decode b_Sy_at 27 = .ok (.baload, 1) := by decide +kernel
theorem d_Sy_at_28 : decode b_Sy_at 28 = .ok (.goto 19, 3) := by decide +kernel
theorem d_Sy_at_31 : decode b_Sy_at 31 = .ok (.aload_n 0, 1) := by decide +kernel
theorem d_Sy_at_32 : decode b_Sy_at 32 = .ok (.getfield 9, 3) := by decide +kernel
theorem d_Sy_at_35 : decode b_Sy_at 35 = .ok (.iload_n 1, 1) := by decide +kernel
theorem d_Sy_at_36 : decode b_Sy_at 36 = .ok (.aload_n 0, 1) := by decide +kernel
theorem d_Sy_at_37 : decode b_Sy_at 37 = .ok (.getfield 17, 3) := by decide +kernel
theorem d_Sy_at_40 : decode b_Sy_at 40 = .ok (.isub, 1) := by decide +kernel
theorem d_Sy_at_41 : decode b_Sy_at 41 = .ok (.aload_n 0, 1) := by decide +kernel
theorem d_Sy_at_42 : decode b_Sy_at 42 = .ok (.getfield 13, 3) := by decide +kernel
theorem d_Sy_at_45 : decode b_Sy_at 45 = .ok (.iadd, 1) := by decide +kernel
theorem d_Sy_at_46 : decode b_Sy_at 46 = .ok (.baload, 1) := by decide +kernel
theorem d_Sy_at_47 : decode b_Sy_at 47 = .ok (.ireturn, 1) := by decide +kernel
theorem d_Sy_go_0 : decode b_Sy_go 0 = .ok (.aload_n 0, 1) := by decide +kernel
theorem d_Sy_go_1 : decode b_Sy_go 1 = .ok (.getfield 17, 3) := by decide +kernel
theorem d_Sy_go_4 : decode b_Sy_go 4 = .ok (.iload_n 1, 1) := by decide +kernel
theorem d_Sy_go_5 : decode b_Sy_go 5 = .ok (.if_icmp .le 44, 3) := by decide +kernel
theorem d_Sy_go_8 : decode b_Sy_go 8 = .ok (.aload_n 0, 1) := by decide +kernel
theorem d_Sy_go_9 : decode b_Sy_go 9 = .ok (.dup, 1) := by decide +kernel
theorem d_Sy_go_10 : decode b_Sy_go 10 = .ok (.getfield 17, 3) := by decide +kernel
theorem d_Sy_go_13 : decode b_Sy_go 13 = .ok (.iconst 1, 1) := by decide +kernel
theorem d_Sy_go_14 : decode b_Sy_go 14 = .ok (.isub, 1) := by decide +kernel
theorem d_Sy_go_15 : decode b_Sy_go 15 = .ok (.putfield 17, 3) := by decide +kernel
theorem d_Sy_go_18 : decode b_Sy_go 18 = .ok (.aload_n 0, 1) := by decide +kernel
theorem d_Sy_go_19 : decode b_Sy_go 19 = .ok (.dup, 1) := by decide +kernel
theorem d_Sy_go_20 : decode b_Sy_go 20 = .ok (.getfield 13, 3) := by decide +kernel
theorem d_Sy_go_23 : decode b_Sy_go 23 = .ok (.iconst 1, 1) := by decide +kernel
theorem d_Sy_go_24 : decode b_Sy_go 24 = .ok (.isub, 1) := by decide +kernel
theorem d_Sy_go_25 : decode b_Sy_go 25 = .ok (.putfield 13, 3) := by decide +kernel
theorem d_Sy_go_28 : decode b_Sy_go 28 = .ok (.aload_n 0, 1) := by decide +kernel
theorem d_Sy_go_29 : decode b_Sy_go 29 = .ok (.getfield 9, 3) := by decide +kernel
theorem d_Sy_go_32 : decode b_Sy_go 32 = .ok (.aload_n 0, 1) := by decide +kernel
theorem d_Sy_go_33 : decode b_Sy_go 33 = .ok (.getfield 13, 3) := by decide +kernel
theorem d_Sy_go_36 : decode b_Sy_go 36 = .ok (.aload_n 0, 1) := by decide +kernel
theorem d_Sy_go_37 : decode b_Sy_go 37 = .ok (.getfield 9, 3) := by decide +kernel
theorem d_Sy_go_40 : decode b_Sy_go 40 = .ok (.aload_n 0, 1) := by decide +kernel
theorem d_Sy_go_41 : decode b_Sy_go 41 = .ok (.getfield 17, 3) := by decide +kernel
theorem d_Sy_go_44 : decode b_Sy_go 44 = .ok (.baload, 1) := by decide +kernel
theorem d_Sy_go_45 : decode b_Sy_go 45 = .ok (.bastore, 1) := by decide +kernel
theorem d_Sy_go_46 : decode b_Sy_go 46 = .ok (.goto (-46), 3) := by decide +kernel
theorem d_Sy_go_49 : decode b_Sy_go 49 = .ok (.aload_n 0, 1) := by decide +kernel
theorem d_Sy_go_50 : decode b_Sy_go 50 = .ok (.getfield 17, 3) := by decide +kernel
theorem d_Sy_go_53 : decode b_Sy_go 53 = .ok (.iload_n 1, 1) := by decide +kernel
theorem d_Sy_go_54 : decode b_Sy_go 54 = .ok (.if_icmp .ge 44, 3) := by decide +kernel
theorem d_Sy_go_57 : decode b_Sy_go 57 = .ok (.aload_n 0, 1) := by decide +kernel
theorem d_Sy_go_58 : decode b_Sy_go 58 = .ok (.getfield 9, 3) := by decide +kernel
theorem d_Sy_go_61 : decode b_Sy_go 61 = .ok (.aload_n 0, 1) := by decide +kernel
theorem d_Sy_go_62 : decode b_Sy_go 62 = .ok (.getfield 17, 3) := by decide +kernel
theorem d_Sy_go_65 : decode b_Sy_go 65 = .ok (.aload_n 0, 1) := by decide +kernel
theorem d_Sy_go_66 : decode b_Sy_go 66 = .ok (.getfield 9, 3) := by decide +kernel
theorem d_Sy_go_69 : decode b_Sy_go 69 = .ok (.aload_n 0, 1) := by decide +kernel
theorem d_Sy_go_70 : decode b_Sy_go 70 = .ok (.getfield 13, 3) := by decide +kernel
theorem d_Sy_go_73 : decode b_Sy_go 73 = .ok (.baload, 1) := by decide +kernel
theorem d_Sy_go_74 : decode b_Sy_go 74 = .ok (.bastore, 1) := by decide +kernel
theorem d_Sy_go_75 : decode b_Sy_go 75 = .ok (.aload_n 0, 1) := by decide +kernel
theorem d_Sy_go_76 : decode b_Sy_go 76 = .ok (.dup, 1) := by decide +kernel
theorem d_Sy_go_77 : decode b_Sy_go 77 = .ok (.getfield 17, 3) := by decide +kernel
theorem d_Sy_go_80 : decode b_Sy_go 80 = .ok (.iconst 1, 1) := by decide +kernel
theorem d_Sy_go_81 : decode b_Sy_go 81 = .ok (.iadd, 1) := by decide +kernel
theorem d_Sy_go_82 : decode b_Sy_go 82 = .ok (.putfield 17, 3) := by decide +kernel
theorem d_Sy_go_85 : decode b_Sy_go 85 = .ok (.aload_n 0, 1) := by decide +kernel
theorem d_Sy_go_86 : decode b_Sy_go 86 = .ok (.dup, 1) := by decide +kernel
theorem d_Sy_go_87 : decode b_Sy_go 87 = .ok (.getfield 13, 3) := by decide +kernel
theorem d_Sy_go_90 : decode b_Sy_go 90 = .ok (.iconst 1, 1) := by decide +kernel
theorem d_Sy_go_91 : decode b_Sy_go 91 = .ok (.iadd, 1) := by decide +kernel
theorem d_Sy_go_92 : decode b_Sy_go 92 = .ok (.putfield 13, 3) := by decide +kernel
theorem d_Sy_go_95 : decode b_Sy_go 95 = .ok (.goto (-46), 3) := by decide +kernel
theorem d_Sy_go_98 : decode b_Sy_go 98 = .ok (.return_, 1) := by decide +kernel
theorem d_Sy_put_0 : decode b_Sy_put 0 = .ok (.aload_n 0, 1) := by decide +kernel
theorem d_Sy_put_1 : decode b_Sy_put 1 = .ok (.getfield 9, 3) := by decide +kernel
theorem d_Sy_put_4 : decode b_Sy_put 4 = .ok (.aload_n 0, 1) := by decide +kernel
theorem d_Sy_put_5 : decode b_Sy_put 5 = .ok (.getfield 17, 3) := by decide +kernel
theorem d_Sy_put_8 : decode b_Sy_put 8 = .ok (.iload_n 1, 1) := by decide +kernel
theorem d_Sy_put_9 : decode b_Sy_put 9 = .ok (.i2b, 1) := by decide +kernel
theorem d_Sy_put_10 : decode b_Sy_put 10 = .ok (.bastore, 1) := by decide +kernel
theorem d_Sy_put_11 : decode b_Sy_put 11 = .ok (.aload_n 0, 1) := by decide +kernel
theorem d_Sy_put_12 : decode b_Sy_put 12 = .ok (.dup, 1) := by decide +kernel
theorem d_Sy_put_13 : decode b_Sy_put 13 = .ok (.getfield 17, 3) := by decide +kernel
theorem d_Sy_put_16 : decode b_Sy_put 16 = .ok (.iconst 1, 1) := by decide +kernel
theorem d_Sy_put_17 : decode b_Sy_put 17 = .ok (.iadd, 1) := by decide +kernel
theorem d_Sy_put_18 : decode b_Sy_put 18 = .ok (.putfield 17, 3) := by decide +kernel
theorem d_Sy_put_21 : decode b_Sy_put 21 = .ok (.return_, 1) := by decide +kernel
theorem d_Sy_clear_0 : decode b_Sy_clear 0 = .ok (.aload_n 0, 1) := by decide +kernel
theorem d_Sy_clear_1 : decode b_Sy_clear 1 = .ok (.iconst 0, 1) := by decide +kernel
theorem d_Sy_clear_2 : decode b_Sy_clear 2 = .ok (.putfield 17, 3) := by decide +kernel
theorem d_Sy_clear_5 : decode b_Sy_clear 5 = .ok (.aload_n 0, 1) := by decide +kernel
theorem d_Sy_clear_6 : decode b_Sy_clear 6 = .ok (.sipush 400, 3) := by decide +kernel
theorem d_Sy_clear_9 : decode b_Sy_clear 9 = .ok (.putfield 13, 3) := by decide +kernel
theorem d_Sy_clear_12 : decode b_Sy_clear 12 = .ok (.return_, 1) := by decide +kernel
theorem d_Tb_init_0 : decode b_Tb_init 0 = .ok (.aload_n 0, 1) := by decide +kernel
theorem d_Tb_init_1 : decode b_Tb_init 1 = .ok (.invokespecial 1, 3) := by decide +kernel
theorem d_Tb_init_4 : decode b_Tb_init 4 = .ok (.aload_n 0, 1) := by decide +kernel
theorem d_Tb_init_5 : decode b_Tb_init 5 = .ok (.sipush 200, 3) := by decide +kernel
theorem d_Tb_init_8 : decode b_Tb_init 8 = .ok (.newarray .byte, 2) := by decide +kernel
theorem d_Tb_init_10 : decode b_Tb_init 10 = .ok (.putfield 9, 3) := by decide +kernel
theorem d_Tb_init_13 : decode b_Tb_init 13 = .ok (.aload_n 0, 1) := by decide +kernel
theorem d_Tb_init_14 : decode b_Tb_init 14 = .ok (.bipush 20, 2) := by decide +kernel
theorem d_Tb_init_16 : decode b_Tb_init 16 = .ok (.newarray .byte, 2) := by decide +kernel
theorem d_Tb_init_18 : decode b_Tb_init 18 = .ok (.putfield 13, 3) := by decide +kernel
theorem d_Tb_init_21 : decode b_Tb_init 21 = .ok (.aload_n 0, 1) := by decide +kernel
theorem d_Tb_init_22 : decode b_Tb_init 22 = .ok (.invokevirtual 16, 3) := by decide +kernel
theorem d_Tb_init_25 : decode b_Tb_init 25 = .ok (.return_, 1) := by decide +kernel
theorem d_Tb_clear_0 : decode b_Tb_clear 0 = .ok (.iconst 0, 1) := by decide +kernel
theorem d_Tb_clear_1 : decode b_Tb_clear 1 = .ok (.istore_n 1, 1) := by decide +kernel
theorem d_Tb_clear_2 : decode b_Tb_clear 2 = .ok (.iload_n 1, 1) := by decide +kernel
theorem d_Tb_clear_3 : decode b_Tb_clear 3 = .ok (.aload_n 0, 1) := by decide +kernel
theorem d_Tb_clear_4 : decode b_Tb_clear 4 = .ok (.getfield 9, 3) := by decide +kernel
theorem d_Tb_clear_7 : decode b_Tb_clear 7 = .ok (.arraylength, 1) := by decide +kernel
theorem d_Tb_clear_8 : decode b_Tb_clear 8 = .ok (.if_icmp .ge 16, 3) := by decide +kernel
theorem d_Tb_clear_11 : decode b_Tb_clear 11 = .ok (.aload_n 0, 1) := by decide +kernel
theorem d_Tb_clear_12 : decode b_Tb_clear 12 = .ok (.getfield 9, 3) := by decide +kernel
theorem d_Tb_clear_15 : decode b_Tb_clear 15 = .ok (.iload_n 1, 1) := by decide +kernel
theorem d_Tb_clear_16 : decode b_Tb_clear 16 = .ok (.iconst (-1), 1) := by decide +kernel
theorem d_Tb_clear_17 : decode b_Tb_clear 17 = .ok (.bastore, 1) := by decide +kernel
theorem d_Tb_clear_18 : decode b_Tb_clear 18 = .ok (.iinc 1 1, 3) := by decide +kernel
theorem d_Tb_clear_21 : decode b_Tb_clear 21 = .ok (.goto (-19), 3) := by decide +kernel
theorem d_Tb_clear_24 : decode b_Tb_clear 24 = .ok (.iconst 0, 1) := by decide +kernel
theorem d_Tb_clear_25 : decode b_Tb_clear 25 = .ok (.istore_n 1, 1) := by decide +kernel
theorem d_Tb_clear_26 : decode b_Tb_clear 26 = .ok (.iload_n 1, 1) := by decide +kernel
theorem d_Tb_clear_27 : decode b_Tb_clear 27 = .ok (.bipush 20, 2) := by decide +kernel
theorem d_Tb_clear_29 : decode b_Tb_clear 29 = .ok (.if_icmp .ge 16, 3) := by decide +kernel
theorem d_Tb_clear_32 : decode b_Tb_clear 32 = .ok (.aload_n 0, 1) := by decide +kernel
theorem d_Tb_clear_33 : decode b_Tb_clear 33 = .ok (.getfield 13, 3) := by decide +kernel
theorem d_Tb_clear_36 : decode b_Tb_clear 36 = .ok (.iload_n 1, 1) := by decide +kernel
theorem d_Tb_clear_37 : decode b_Tb_clear 37 = .ok (.iconst (-1), 1) := by decide +kernel
theorem d_Tb_clear_38 : decode b_Tb_clear 38 = .ok (.bastore, 1) := by decide +kernel
theorem d_Tb_clear_39 : decode b_Tb_clear 39 = .ok (.iinc 1 1, 3) := by decide +kernel
theorem d_Tb_clear_42 : decode b_Tb_clear 42 = .ok (.goto (-16), 3) := by decide +kernel
theorem d_Tb_clear_45 : decode b_Tb_clear 45 = .ok (.return_, 1) := by decide +kernel
theorem d_Tb_next_0 : decode b_Tb_next 0 = .ok (.iload_n 2, 1) := by decide +kernel
theorem d_Tb_next_1 : decode b_Tb_next 1 = .ok (.iconst (-1), 1) := by decide +kernel
theorem d_Tb_next_2 : decode b_Tb_next 2 = .ok (.if_icmp .ne 7, 3) := by decide +kernel
theorem d_Tb_next_5 : decode b_Tb_next 5 = .ok (.iconst (-1), 1) := by decide +kernel
theorem d_Tb_next_6 : decode b_Tb_next 6 = .ok (.goto 14, 3) := by decide +kernel
theorem d_Tb_next_9 : decode b_Tb_next 9 = .ok (.aload_n 0, 1) := by decide +kernel
theorem d_Tb_next_10 : decode b_Tb_next 10 = .ok (.getfield 9, 3) := by decide +kernel
theorem d_Tb_next_13 : decode b_Tb_next 13 = .ok (.bipush 10, 2) := by decide +kernel
theorem d_Tb_next_15 : decode b_Tb_next 15 = .ok (.iload_n 1, 1) := by decide +kernel
theorem d_Tb_next_16 : decode b_Tb_next 16 = .ok (.imul, 1) := by decide +kernel
theorem d_Tb_next_17 : decode b_Tb_next 17 = .ok (.iload_n 2, 1) := by decide +kernel
theorem d_Tb_next_18 : decode b_Tb_next 18 = .ok (.iadd, 1) := by decide +kernel
theorem d_Tb_next_19 : decode b_Tb_next 19 = .ok (.baload, 1) := by decide +kernel
theorem d_Tb_next_20 : decode b_Tb_next 20 = .ok (.ireturn, 1) := by decide +kernel
end
section
theorem d_Ed_init_0 : decode b_Ed_init 0 = .ok (.aload_n 0, 1) := by decide +kernel
theorem d_Ed_init_1 : decode b_Ed_init 1 = .ok (.invokespecial 1, 3) := by decide +kernel
theorem d_Ed_init_4 : decode b_Ed_init 4 = .ok (.aload_n 0, 1) := by decide +kernel
theorem d_Ed_init_5 : decode b_Ed_init 5 = .ok (.new 7, 3) := by decide +kernel
theorem d_Ed_init_8 : decode b_Ed_init 8 = .ok (.dup, 1) := by decide +kernel
theorem d_Ed_init_9 : decode b_Ed_init 9 = .ok (.invokespecial 9, 3) := by decide +kernel
theorem d_Ed_init_12 : decode b_Ed_init 12 = .ok (.putfield 10, 3) := by decide +kernel
theorem d_Ed_init_15 : decode b_Ed_init 15 = .ok (.aload_n 0, 1) := by decide +kernel
theorem d_Ed_init_16 : decode b_Ed_init 16 = .ok (.new 16, 3) := by decide +kernel
theorem d_Ed_init_19 : decode b_Ed_init 19 = .ok (.dup, 1) := by decide +kernel
theorem d_Ed_init_20 : decode b_Ed_init 20 = .ok (.invokespecial 18, 3) := by decide +kernel
theorem d_Ed_init_23 : decode b_Ed_init 23 = .ok (.putfield 19, 3) := by decide +kernel
theorem d_Ed_init_26 : decode b_Ed_init 26 = .ok (.aload_n 0, 1) := by decide +kernel
theorem d_Ed_init_27 : decode b_Ed_init 27 = .ok (.new 23, 3) := by decide +kernel
theorem d_Ed_init_30 : decode b_Ed_init 30 = .ok (.dup, 1) := by decide +kernel
theorem d_Ed_init_31 : decode b_Ed_init 31 = .ok (.invokespecial 25, 3) := by decide +kernel
theorem d_Ed_init_34 : decode b_Ed_init 34 = .ok (.putfield 26, 3) := by decide +kernel
theorem d_Ed_init_37 : decode b_Ed_init 37 = .ok (.return_, 1) := by decide +kernel
theorem d_Ed_isState_0 : decode b_Ed_isState 0 = .ok (.iload_n 0, 1) := by decide +kernel
theorem d_Ed_isState_1 : decode b_Ed_isState 1 = .ok (.ifCond .lt 13, 3) := by decide +kernel
theorem d_Ed_isState_4 : decode b_Ed_isState 4 = .ok (.iload_n 0, 1) := by decide +kernel
theorem d_Ed_isState_5 : decode b_Ed_isState 5 = .ok (.bipush 20, 2) := by decide +kernel
theorem d_Ed_isState_7 : decode b_Ed_isState 7 = .ok (.if_icmp .ge 7, 3) := by decide +kernel
theorem d_Ed_isState_10 : decode b_Ed_isState 10 = .ok (.iconst 1, 1) := by decide +kernel
theorem d_Ed_isState_11 : decode b_Ed_isState 11 = .ok (.goto 4, 3) := by decide +kernel
theorem d_Ed_isState_14 : decode b_Ed_isState 14 = .ok (.iconst 0, 1) := by decide +kernel
theorem d_Ed_isState_15 : decode b_Ed_isState 15 = .ok (.ireturn, 1) := by decide +kernel
theorem d_Ed_arrow_0 : decode b_Ed_arrow 0 = .ok (.iload_n 1, 1) := by decide +kernel
theorem d_Ed_arrow_1 : decode b_Ed_arrow 1 = .ok (.invokestatic 30, 3) := by decide +kernel
theorem d_Ed_arrow_4 : decode b_Ed_arrow 4 = .ok (.ifCond .eq 35, 3) := by decide +kernel
theorem d_Ed_arrow_7 : decode b_Ed_arrow 7 = .ok (.iload_n 2, 1) := by decide +kernel
theorem d_Ed_arrow_8 : decode b_Ed_arrow 8 = .ok (.ifCond .lt 31, 3) := by decide +kernel
theorem d_Ed_arrow_11 : decode b_Ed_arrow 11 = .ok (.iload_n 2, 1) := by decide +kernel
theorem d_Ed_arrow_12 : decode b_Ed_arrow 12 = .ok (.bipush 10, 2) := by decide +kernel
theorem d_Ed_arrow_14 : decode b_Ed_arrow 14 = .ok (.if_icmp .ge 25, 3) := by decide +kernel
theorem d_Ed_arrow_17 : decode b_Ed_arrow 17 = .ok (.iload_n 3, 1) := by decide +kernel
theorem d_Ed_arrow_18 : decode b_Ed_arrow 18 = .ok (.iconst (-1), 1) := by decide +kernel
theorem d_Ed_arrow_19 : decode b_Ed_arrow 19 = .ok (.if_icmp .eq 10, 3) := by decide +kernel
theorem d_Ed_arrow_22 : decode b_Ed_arrow 22 = .ok (.iload_n 3, 1) := by decide +kernel
theorem d_Ed_arrow_23 : decode b_Ed_arrow 23 = .ok (.invokestatic 30, 3) := by decide +kernel
theorem d_Ed_arrow_26 : decode b_Ed_arrow 26 = .ok (.ifCond .eq 13, 3) := by decide +kernel
theorem d_Ed_arrow_29 : decode b_Ed_arrow 29 = .ok (.aload_n 0, 1) := by decide +kernel
theorem d_Ed_arrow_30 : decode b_Ed_arrow 30 = .ok (.getfield 19, 3) := by decide +kernel
theorem d_Ed_arrow_33 : decode b_Ed_arrow 33 = .ok (.invokevirtual 34, 3) := by decide +kernel
theorem d_Ed_arrow_36 : decode b_Ed_arrow 36 = .ok (.ifCond .le 5, 3) := by decide +kernel
theorem d_Ed_arrow_39 : decode b_Ed_arrow 39 = .ok (.iconst 0, 1) := by decide +kernel
theorem d_Ed_arrow_40 : decode b_Ed_arrow 40 = .ok (.ireturn, 1) := by decide +kernel
theorem d_Ed_arrow_41 : decode b_Ed_arrow 41 = .ok (.aload_n 0, 1) := by decide +kernel
theorem d_Ed_arrow_42 : decode b_Ed_arrow 42 = .ok (.getfield 10, 3) := by decide +kernel
theorem d_Ed_arrow_45 : decode b_Ed_arrow 45 = .ok (.getfield 38, 3) := by decide +kernel
theorem d_Ed_arrow_48 : decode b_Ed_arrow 48 = .ok (.bipush 10, 2) := by decide +kernel
theorem d_Ed_arrow_50 : decode b_Ed_arrow 50 = .ok (.iload_n 1, 1) := by decide +kernel
theorem d_Ed_arrow_51 : decode b_Ed_arrow 51 = .ok (.imul, 1) := by decide +kernel
theorem d_Ed_arrow_52 : decode b_Ed_arrow 52 = .ok (.iload_n 2, 1) := by decide +kernel
theorem d_Ed_arrow_53 : decode b_Ed_arrow 53 = .ok (.iadd, 1) := by decide +kernel
theorem d_Ed_arrow_54 : decode b_Ed_arrow 54 = .ok (.iload_n 3, 1) := by decide +kernel
theorem d_Ed_arrow_55 : decode b_Ed_arrow 55 = .ok (.i2b, 1) := by decide +kernel
theorem d_Ed_arrow_56 : decode b_Ed_arrow 56 = .ok (.bastore, 1) := by decide +kernel
theorem d_Ed_arrow_57 : decode b_Ed_arrow 57 = .ok (.iconst 1, 1) := by decide +kernel
theorem d_Ed_arrow_58 : decode b_Ed_arrow 58 = .ok (.ireturn, 1) := by decide +kernel
theorem d_Ed_kind_0 : decode b_Ed_kind 0 = .ok (.iload_n 1, 1) := by decide +kernel
theorem d_Ed_kind_1 : decode b_Ed_kind 1 = .ok (.invokestatic 30, 3) := by decide +kernel
theorem d_Ed_kind_4 : decode b_Ed_kind 4 = .ok (.ifCond .eq 24, 3) := by decide +kernel
theorem d_Ed_kind_7 : decode b_Ed_kind 7 = .ok (.iload_n 2, 1) := by decide +kernel
theorem d_Ed_kind_8 : decode b_Ed_kind 8 = .ok (.iconst (-1), 1) := by decide +kernel
theorem d_Ed_kind_9 : decode b_Ed_kind 9 = .ok (.if_icmp .lt 19, 3) := by decide +kernel
theorem d_Ed_kind_12 : decode b_Ed_kind 12 = .ok (.iload_n 2, 1) := by decide +kernel
theorem d_Ed_kind_13 : decode b_Ed_kind 13 = .ok (.bipush 100, 2) := by decide +kernel
theorem d_Ed_kind_15 : decode b_Ed_kind 15 = .ok (.if_icmp .ge 13, 3) := by decide +kernel
theorem d_Ed_kind_18 : decode b_Ed_kind 18 = .ok (.aload_n 0, 1) := by decide +kernel
theorem d_Ed_kind_19 : decode b_Ed_kind 19 = .ok (.getfield 19, 3) := by decide +kernel
theorem d_Ed_kind_22 : decode b_Ed_kind 22 = .ok (.invokevirtual 34, 3) := by decide +kernel
theorem d_Ed_kind_25 : decode b_Ed_kind 25 = .ok (.ifCond .le 5, 3) := by decide +kernel
theorem d_Ed_kind_28 : decode b_Ed_kind 28 = .ok (.iconst 0, 1) := by decide +kernel
theorem d_Ed_kind_29 : decode b_Ed_kind 29 = .ok (.ireturn, 1) := by decide +kernel
theorem d_Ed_kind_30 : decode b_Ed_kind 30 = .ok (.aload_n 0, 1) := by decide +kernel
theorem d_Ed_kind_31 : decode b_Ed_kind 31 = .ok (.getfield 10, 3) := by decide +kernel
theorem d_Ed_kind_34 : decode b_Ed_kind 34 = .ok (.getfield 42, 3) := by decide +kernel
theorem d_Ed_kind_37 : decode b_Ed_kind 37 = .ok (.iload_n 1, 1) := by decide +kernel
theorem d_Ed_kind_38 : decode b_Ed_kind 38 = .ok (.iload_n 2, 1) := by decide +kernel
theorem d_Ed_kind_39 : decode b_Ed_kind 39 = .ok (.i2b, 1) := by decide +kernel
theorem d_Ed_kind_40 : decode b_Ed_kind 40 = .ok (.bastore, 1) := by decide +kernel
theorem d_Ed_kind_41 : decode b_Ed_kind 41 = .ok (.iconst 1, 1) := by decide +kernel
theorem d_Ed_kind_42 : decode b_Ed_kind 42 = .ok (.ireturn, 1) := by decide +kernel
theorem d_Ed_scan_0 : decode b_Ed_scan 0 = .ok (.iconst 0, 1) := by decide +kernel
theorem d_Ed_scan_1 : decode b_Ed_scan 1 = .ok (.istore_n 2, 1) := by decide +kernel
theorem d_Ed_scan_2 : decode b_Ed_scan 2 = .ok (.aload_n 0, 1) := by decide +kernel
theorem d_Ed_scan_3 : decode b_Ed_scan 3 = .ok (.iconst 0, 1) := by decide +kernel
theorem d_Ed_scan_4 : decode b_Ed_scan 4 = .ok (.putfield 45, 3) := by decide +kernel
theorem d_Ed_scan_7 : decode b_Ed_scan 7 = .ok (.aload_n 0, 1) := by decide +kernel
theorem d_Ed_scan_8 : decode b_Ed_scan 8 = .ok (.iconst 0, 1) := by decide +kernel
theorem d_Ed_scan_9 : decode b_Ed_scan 9 = .ok (.putfield 48, 3) := by decide +kernel
theorem d_Ed_scan_12 : decode b_Ed_scan 12 = .ok (.aload_n 0, 1) := by decide +kernel
theorem d_Ed_scan_13 : decode b_Ed_scan 13 = .ok (.iconst (-1), 1) := by decide +kernel
theorem d_Ed_scan_14 : decode b_Ed_scan 14 = .ok (.putfield 51, 3) := by decide +kernel
theorem d_Ed_scan_17 : decode b_Ed_scan 17 = .ok (.iload_n 2, 1) := by decide +kernel
theorem d_Ed_scan_18 : decode b_Ed_scan 18 = .ok (.iconst (-1), 1) := by decide +kernel
theorem d_Ed_scan_19 : decode b_Ed_scan 19 = .ok (.if_icmp .eq 77, 3) := by decide +kernel
theorem d_Ed_scan_22 : decode b_Ed_scan 22 = .ok (.aload_n 0, 1) := by decide +kernel
theorem d_Ed_scan_23 : decode b_Ed_scan 23 = .ok (.getfield 10, 3) := by decide +kernel
theorem d_Ed_scan_26 : decode b_Ed_scan 26 = .ok (.iload_n 2, 1) := by decide +kernel
theorem d_Ed_scan_27 : decode b_Ed_scan 27 = .ok (.aload_n 0, 1) := by decide +kernel
theorem d_Ed_scan_28 : decode b_Ed_scan 28 = .ok (.getfield 19, 3) := by decide +kernel
theorem d_Ed_scan_31 : decode b_Ed_scan 31 = .ok (.iload_n 1, 1) := by decide +kernel
theorem d_Ed_scan_32 : decode b_Ed_scan 32 = .ok (.aload_n 0, 1) := by decide +kernel
theorem d_Ed_scan_33 : decode b_Ed_scan 33 = .ok (.getfield 48, 3) := by decide +kernel
theorem d_Ed_scan_36 : decode b_Ed_scan 36 = .ok (.iadd, 1) := by decide +kernel
theorem d_Ed_scan_37 : decode b_Ed_scan 37 = .ok (.invokevirtual 54, 3) := by decide +kernel
theorem d_Ed_scan_40 : decode b_Ed_scan 40 = .ok (.invokevirtual 58, 3) := by decide +kernel
theorem d_Ed_scan_43 : decode b_Ed_scan 43 = .ok (.istore_n 2, 1) := by decide +kernel
theorem d_Ed_scan_44 : decode b_Ed_scan 44 = .ok (.aload_n 0, 1) := by decide +kernel
theorem d_Ed_scan_45 : decode b_Ed_scan 45 = .ok (.dup, 1) := by decide +kernel
theorem d_Ed_scan_46 : decode b_Ed_scan 46 = .ok (.getfield 48, 3) := by decide +kernel
theorem d_Ed_scan_49 : decode b_Ed_scan 49 = .ok (.iconst 1, 1) := by decide +kernel
theorem d_Ed_scan_50 : decode b_Ed_scan 50 = .ok (.iadd, 1) := by decide +kernel
theorem d_Ed_scan_51 : decode b_Ed_scan 51 = .ok (.putfield 48, 3) := by decide +kernel
theorem d_Ed_scan_54 : decode b_Ed_scan 54 = .ok (.iload_n 2, 1) := by decide +kernel
theorem d_Ed_scan_55 : decode b_Ed_scan 55 = .ok (.iconst (-1), 1) := by decide +kernel
theorem d_Ed_scan_56 : decode b_Ed_scan 56 = .ok (.if_icmp .eq (-39), 3) := by decide +kernel
theorem d_Ed_scan_59 : decode b_Ed_scan 59 = .ok (.aload_n 0, 1) := by decide +kernel
theorem d_Ed_scan_60 : decode b_Ed_scan 60 = .ok (.getfield 10, 3) := by decide +kernel
theorem d_Ed_scan_63 : decode b_Ed_scan 63 = .ok (.getfield 42, 3) := by decide +kernel
theorem d_Ed_scan_66 : decode b_Ed_scan 66 = .ok (.iload_n 2, 1) := by decide +kernel
theorem d_Ed_scan_67 : decode b_Ed_scan 67 = .ok (.baload, 1) := by decide +kernel
theorem d_Ed_scan_68 : decode b_Ed_scan 68 = .ok (.iconst (-1), 1) := by decide +kernel
theorem d_Ed_scan_69 : decode b_Ed_scan 69 = .ok (.if_icmp .eq (-52), 3) := by decide +kernel
theorem d_Ed_scan_72 : decode b_Ed_scan 72 = .ok (.aload_n 0, 1) := by decide +kernel
theorem d_Ed_scan_73 : decode b_Ed_scan 73 = .ok (.aload_n 0, 1) := by decide +kernel
theorem d_Ed_scan_74 : decode b_Ed_scan 74 = .ok (.getfield 48, 3) := by decide +kernel
theorem d_Ed_scan_77 : decode b_Ed_scan 77 = .ok (.putfield 45, 3) := by decide +kernel
theorem d_Ed_scan_80 : decode b_Ed_scan 80 = .ok (.aload_n 0, 1) := by decide +kernel
theorem d_Ed_scan_81 : decode b_Ed_scan 81 = .ok (.aload_n 0, 1) := by decide +kernel
theorem d_Ed_scan_82 : decode b_Ed_scan 82 = .ok (.getfield 10, 3) := by decide +kernel
theorem d_Ed_scan_85 : decode b_Ed_scan 85 = .ok (.getfield 42, 3) := by decide +kernel
theorem d_Ed_scan_88 : decode b_Ed_scan 88 = .ok (.iload_n 2, 1) := by decide +kernel
theorem d_Ed_scan_89 : decode b_Ed_scan 89 = .ok (.baload, 1) := by decide +kernel
theorem d_Ed_scan_90 : decode b_Ed_scan 90 = .ok (.putfield 51, 3) := by decide +kernel
theorem d_Ed_scan_93 : decode b_Ed_scan 93 = .ok (.goto (-76), 3) := by decide +kernel
theorem d_Ed_scan_96 : decode b_Ed_scan 96 = .ok (.return_, 1) := by decide +kernel
theorem d_Ed_areSymbols_0 : decode b_Ed_areSymbols 0 = .ok (.iconst 1, 1) := by decide +kernel
theorem d_Ed_areSymbols_1 : decode b_Ed_areSymbols 1 = .ok (.istore_n 3, 1) := by decide +kernel
theorem d_Ed_areSymbols_2 : decode b_Ed_areSymbols 2 = .ok (.iconst 0, 1) := by decide +kernel
theorem d_Ed_areSymbols_3 : decode b_Ed_areSymbols 3 = .ok (.istore 4, 2) := by decide +kernel
theorem d_Ed_areSymbols_5 : decode b_Ed_areSymbols 5 = .ok (.iload 4, 2) := by decide +kernel
theorem d_Ed_areSymbols_7 : decode b_Ed_areSymbols 7 = .ok (.iload_n 2, 1) := by decide +kernel
theorem d_Ed_areSymbols_8 : decode b_Ed_areSymbols 8 = .ok (.if_icmp .ge 36, 3) := by decide +kernel
theorem d_Ed_areSymbols_11 : decode b_Ed_areSymbols 11 = .ok (.iload_n 3, 1) := by decide +kernel
theorem d_Ed_areSymbols_12 : decode b_Ed_areSymbols 12 = .ok (.ifCond .eq 24, 3) := by decide +kernel
theorem d_Ed_areSymbols_15 : decode b_Ed_areSymbols 15 = .ok (.lload_n 0, 1) := by decide +kernel
theorem d_Ed_areSymbols_16 : decode b_Ed_areSymbols 16 = .ok (.iconst 4, 1) := by decide +kernel
theorem d_Ed_areSymbols_17 : decode b_Ed_areSymbols 17 = .ok (.iload 4, 2) := by decide +kernel
theorem d_Ed_areSymbols_19 : decode b_Ed_areSymbols 19 = .ok (.imul, 1) := by decide +kernel
theorem d_Ed_areSymbols_20 : decode b_Ed_areSymbols 20 = .ok (.lshr, 1) := by decide +kernel
theorem d_Ed_areSymbols_21 : decode b_Ed_areSymbols 21 = .ok (.ldc2_w 62, 3) := by decide +kernel
theorem d_Ed_areSymbols_24 : decode b_Ed_areSymbols 24 = .ok (.land, 1) := by decide +kernel
theorem d_Ed_areSymbols_25 : decode b_Ed_areSymbols 25 = .ok (.ldc2_w 64, 3) := by decide +kernel
theorem d_Ed_areSymbols_28 : decode b_Ed_areSymbols 28 = .ok (.lcmp, 1) := by decide +kernel
theorem d_Ed_areSymbols_29 : decode b_Ed_areSymbols 29 = .ok (.ifCond .ge 7, 3) := by decide +kernel
theorem d_Ed_areSymbols_32 : decode b_Ed_areSymbols 32 = .ok (.iconst 1, 1) := by decide +kernel
theorem d_Ed_areSymbols_33 : decode b_Ed_areSymbols 33 = .ok (.goto 4, 3) := by decide +kernel
theorem d_Ed_areSymbols_36 : decode b_Ed_areSymbols 36 = .ok (.iconst 0, 1) := by decide +kernel
theorem d_Ed_areSymbols_37 : decode b_Ed_areSymbols 37 = .ok (.istore_n 3, 1) := by decide +kernel
theorem d_Ed_areSymbols_38 : decode b_Ed_areSymbols 38 = .ok (.iinc 4 1, 3) := by decide +kernel
theorem d_Ed_areSymbols_41 : decode b_Ed_areSymbols 41 = .ok (.goto (-36), 3) := by decide +kernel
theorem d_Ed_areSymbols_44 : decode b_Ed_areSymbols 44 = .ok (.iload_n 3, 1) := by decide +kernel
theorem d_Ed_areSymbols_45 : decode b_Ed_areSymbols 45 = .ok (.ireturn, 1) := by decide +kernel
theorem d_Ed_edit_0 : decode b_Ed_edit 0 = .ok (.iload 5, 2) := by decide +kernel
theorem d_Ed_edit_2 : decode b_Ed_edit 2 = .ok (.ifCond .lt 69, 3) := by decide +kernel
theorem d_Ed_edit_5 : decode b_Ed_edit 5 = .ok (.iload 5, 2) := by decide +kernel
theorem d_Ed_edit_7 : decode b_Ed_edit 7 = .ok (.bipush 16, 2) := by decide +kernel
theorem d_Ed_edit_9 : decode b_Ed_edit 9 = .ok (.if_icmp .gt 62, 3) := by decide +kernel
theorem d_Ed_edit_12 : decode b_Ed_edit 12 = .ok (.lload_n 3, 1) := by decide +kernel
theorem d_Ed_edit_13 : decode b_Ed_edit 13 = .ok (.iload 5, 2) := by decide +kernel
theorem d_Ed_edit_15 : decode b_Ed_edit 15 = .ok (.invokestatic 66, 3) := by decide +kernel
theorem d_Ed_edit_18 : decode b_Ed_edit 18 = .ok (.ifCond .eq 53, 3) := by decide +kernel
theorem d_Ed_edit_21 : decode b_Ed_edit 21 = .ok (.iload_n 1, 1) := by decide +kernel
theorem d_Ed_edit_22 : decode b_Ed_edit 22 = .ok (.ifCond .lt 49, 3) := by decide +kernel
theorem d_Ed_edit_25 : decode b_Ed_edit 25 = .ok (.iload_n 2, 1) := by decide +kernel
theorem d_Ed_edit_26 : decode b_Ed_edit 26 = .ok (.ifCond .lt 45, 3) := by decide +kernel
theorem d_Ed_edit_29 : decode b_Ed_edit 29 = .ok (.iload_n 1, 1) := by decide +kernel
theorem d_Ed_edit_30 : decode b_Ed_edit 30 = .ok (.aload_n 0, 1) := by decide +kernel
theorem d_Ed_edit_31 : decode b_Ed_edit 31 = .ok (.getfield 19, 3) := by decide +kernel
theorem d_Ed_edit_34 : decode b_Ed_edit 34 = .ok (.invokevirtual 34, 3) := by decide +kernel
theorem d_Ed_edit_37 : decode b_Ed_edit 37 = .ok (.if_icmp .gt 34, 3) := by decide +kernel
theorem d_Ed_edit_40 : decode b_Ed_edit 40 = .ok (.iload_n 2, 1) := by decide +kernel
theorem d_Ed_edit_41 : decode b_Ed_edit 41 = .ok (.aload_n 0, 1) := by decide +kernel
theorem d_Ed_edit_42 : decode b_Ed_edit 42 = .ok (.getfield 19, 3) := by decide +kernel
theorem d_Ed_edit_45 : decode b_Ed_edit 45 = .ok (.invokevirtual 34, 3) := by decide +kernel
theorem d_Ed_edit_48 : decode b_Ed_edit 48 = .ok (.iload_n 1, 1) := by decide +kernel
theorem d_Ed_edit_49 : decode b_Ed_edit 49 = .ok (.isub, 1) := by decide +kernel
theorem d_Ed_edit_50 : decode b_Ed_edit 50 = .ok (.if_icmp .gt 21, 3) := by decide +kernel
theorem d_Ed_edit_53 : decode b_Ed_edit 53 = .ok (.aload_n 0, 1) := by decide +kernel
theorem d_Ed_edit_54 : decode b_Ed_edit 54 = .ok (.getfield 19, 3) := by decide +kernel
theorem d_Ed_edit_57 : decode b_Ed_edit 57 = .ok (.invokevirtual 34, 3) := by decide +kernel
theorem d_Ed_edit_60 : decode b_Ed_edit 60 = .ok (.iload_n 2, 1) := by decide +kernel
theorem d_Ed_edit_61 : decode b_Ed_edit 61 = .ok (.isub, 1) := by decide +kernel
theorem d_Ed_edit_62 : decode b_Ed_edit 62 = .ok (.iload 5, 2) := by decide +kernel
theorem d_Ed_edit_64 : decode b_Ed_edit 64 = .ok (.iadd, 1) := by decide +kernel
theorem d_Ed_edit_65 : decode b_Ed_edit 65 = .ok (.sipush 400, 3) := by decide +kernel
theorem d_Ed_edit_68 : decode b_Ed_edit 68 = .ok (.if_icmp .le 5, 3) := by decide +kernel
theorem d_Ed_edit_71 : decode b_Ed_edit 71 = .ok (.iconst (-1), 1) := by decide +kernel
theorem d_Ed_edit_72 : decode b_Ed_edit 72 = .ok (.ireturn, 1) := by decide +kernel
theorem d_Ed_edit_73 : decode b_Ed_edit 73 = .ok (.aload_n 0, 1) := by decide +kernel
theorem d_Ed_edit_74 : decode b_Ed_edit 74 = .ok (.getfield 19, 3) := by decide +kernel
theorem d_Ed_edit_77 : decode b_Ed_edit 77 = .ok (.invokevirtual 34, 3) := by decide +kernel
theorem d_Ed_edit_80 : decode b_Ed_edit 80 = .ok (.istore 6, 2) := by decide +kernel
theorem d_Ed_edit_82 : decode b_Ed_edit 82 = .ok (.iconst 0, 1) := by decide +kernel
theorem d_Ed_edit_83 : decode b_Ed_edit 83 = .ok (.istore 7, 2) := by decide +kernel
theorem d_Ed_edit_85 : decode b_Ed_edit 85 = .ok (.iload 7, 2) := by decide +kernel
theorem d_Ed_edit_87 : decode b_Ed_edit 87 = .ok (.aload_n 0, 1) := by decide +kernel
theorem d_Ed_edit_88 : decode b_Ed_edit 88 = .ok (.getfield 26, 3) := by decide +kernel
theorem d_Ed_edit_91 : decode b_Ed_edit 91 = .ok (.invokevirtual 70, 3) := by decide +kernel
theorem d_Ed_edit_94 : decode b_Ed_edit 94 = .ok (.if_icmp .ge 42, 3) := by decide +kernel
theorem d_Ed_edit_97 : decode b_Ed_edit 97 = .ok (.aload_n 0, 1) := by decide +kernel
theorem d_Ed_edit_98 : decode b_Ed_edit 98 = .ok (.getfield 26, 3) := by decide +kernel
theorem d_Ed_edit_101 : decode b_Ed_edit 101 = .ok (.iload 7, 2) := by decide +kernel
theorem d_Ed_edit_103 : decode b_Ed_edit 103 = .ok (.iload 6, 2) := by decide +kernel
theorem d_Ed_edit_105 : decode b_Ed_edit 105 = .ok (.invokevirtual 71, 3) := by decide +kernel
theorem d_Ed_edit_108 : decode b_Ed_edit 108 = .ok (.aload_n 0, 1) := by decide +kernel
theorem d_Ed_edit_109 : decode b_Ed_edit 109 = .ok (.getfield 26, 3) := by decide +kernel
theorem d_Ed_edit_112 : decode b_Ed_edit 112 = .ok (.getfield 74, 3) := by decide +kernel
theorem d_Ed_edit_115 : decode b_Ed_edit 115 = .ok (.aload_n 0, 1) := by decide +kernel
theorem d_Ed_edit_116 : decode b_Ed_edit 116 = .ok (.getfield 26, 3) := by decide +kernel
theorem d_Ed_edit_119 : decode b_Ed_edit 119 = .ok (.iload 7, 2) := by decide +kernel
theorem d_Ed_edit_121 : decode b_Ed_edit 121 = .ok (.invokevirtual 78, 3) := by decide +kernel
theorem d_Ed_edit_124 : decode b_Ed_edit 124 = .ok (.saload, 1) := by decide +kernel
theorem d_Ed_edit_125 : decode b_Ed_edit 125 = .ok (.iadd, 1) := by decide +kernel
theorem d_Ed_edit_126 : decode b_Ed_edit 126 = .ok (.iload_n 1, 1) := by decide +kernel
theorem d_Ed_edit_127 : decode b_Ed_edit 127 = .ok (.if_icmp .gt 9, 3) := by decide +kernel
theorem d_Ed_edit_130 : decode b_Ed_edit 130 = .ok (.iinc 7 1, 3) := by decide +kernel
theorem d_Ed_edit_133 : decode b_Ed_edit 133 = .ok (.goto (-48), 3) := by decide +kernel
theorem d_Ed_edit_136 : decode b_Ed_edit 136 = .ok (.iload 7, 2) := by decide +kernel
theorem d_Ed_edit_138 : decode b_Ed_edit 138 = .ok (.aload_n 0, 1) := by decide +kernel
theorem d_Ed_edit_139 : decode b_Ed_edit 139 = .ok (.getfield 26, 3) := by decide +kernel
theorem d_Ed_edit_142 : decode b_Ed_edit 142 = .ok (.invokevirtual 70, 3) := by decide +kernel
theorem d_Ed_edit_145 : decode b_Ed_edit 145 = .ok (.if_icmp .ne 12, 3) := by decide +kernel
theorem d_Ed_edit_148 : decode b_Ed_edit 148 = .ok (.iload 7, 2) := by decide +kernel
theorem d_Ed_edit_150 : decode b_Ed_edit 150 = .ok (.ifCond .le 7, 3) := by decide +kernel
theorem d_Ed_edit_153 : decode b_Ed_edit 153 = .ok (.iconst 1, 1) := by decide +kernel
theorem d_Ed_edit_154 : decode b_Ed_edit 154 = .ok (.goto 4, 3) := by decide +kernel
theorem d_Ed_edit_157 : decode b_Ed_edit 157 = .ok (.iconst 0, 1) := by decide +kernel
theorem d_Ed_edit_158 : decode b_Ed_edit 158 = .ok (.istore 8, 2) := by decide +kernel
theorem d_Ed_edit_160 : decode b_Ed_edit 160 = .ok (.iload 7, 2) := by decide +kernel
theorem d_Ed_edit_162 : decode b_Ed_edit 162 = .ok (.aload_n 0, 1) := by decide +kernel
theorem d_Ed_edit_163 : decode b_Ed_edit 163 = .ok (.getfield 26, 3) := by decide +kernel
theorem d_Ed_edit_166 : decode b_Ed_edit 166 = .ok (.invokevirtual 70, 3) := by decide +kernel
theorem d_Ed_edit_169 : decode b_Ed_edit 169 = .ok (.if_icmp .ge 17, 3) := by decide +kernel
theorem d_Ed_edit_172 : decode b_Ed_edit 172 = .ok (.aload_n 0, 1) := by decide +kernel
theorem d_Ed_edit_173 : decode b_Ed_edit 173 = .ok (.getfield 26, 3) := by decide +kernel
theorem d_Ed_edit_176 : decode b_Ed_edit 176 = .ok (.iload 7, 2) := by decide +kernel
theorem d_Ed_edit_178 : decode b_Ed_edit 178 = .ok (.iload 6, 2) := by decide +kernel
theorem d_Ed_edit_180 : decode b_Ed_edit 180 = .ok (.invokevirtual 71, 3) := by decide +kernel
theorem d_Ed_edit_183 : decode b_Ed_edit 183 = .ok (.goto 4, 3) := by decide +kernel
theorem d_Ed_edit_186 : decode b_Ed_edit 186 = .ok (.iconst 0, 1) := by decide +kernel
theorem d_Ed_edit_187 : decode b_Ed_edit 187 = .ok (.istore 9, 2) := by decide +kernel
theorem d_Ed_edit_189 : decode b_Ed_edit 189 = .ok (.aload_n 0, 1) := by decide +kernel
theorem d_Ed_edit_190 : decode b_Ed_edit 190 = .ok (.getfield 26, 3) := by decide +kernel
theorem d_Ed_edit_193 : decode b_Ed_edit 193 = .ok (.iload 7, 2) := by decide +kernel
theorem d_Ed_edit_195 : decode b_Ed_edit 195 = .ok (.iload 6, 2) := by decide +kernel
theorem d_Ed_edit_197 : decode b_Ed_edit 197 = .ok (.invokevirtual 81, 3) := by decide +kernel
theorem d_Ed_edit_200 : decode b_Ed_edit 200 = .ok (.aload_n 0, 1) := by decide +kernel
theorem d_Ed_edit_201 : decode b_Ed_edit 201 = .ok (.getfield 19, 3) := by decide +kernel
theorem d_Ed_edit_204 : decode b_Ed_edit 204 = .ok (.iload_n 1, 1) := by decide +kernel
theorem d_Ed_edit_205 : decode b_Ed_edit 205 = .ok (.invokevirtual 85, 3) := by decide +kernel
theorem d_Ed_edit_208 : decode b_Ed_edit 208 = .ok (.aload_n 0, 1) := by decide +kernel
theorem d_Ed_edit_209 : decode b_Ed_edit 209 = .ok (.getfield 19, 3) := by decide +kernel
theorem d_Ed_edit_212 : decode b_Ed_edit 212 = .ok (.dup, 1) := by decide +kernel
theorem d_Ed_edit_213 : decode b_Ed_edit 213 = .ok (.getfield 88, 3) := by decide +kernel
theorem d_Ed_edit_216 : decode b_Ed_edit 216 = .ok (.iload_n 2, 1) := by decide +kernel
theorem d_Ed_edit_217 : decode b_Ed_edit 217 = .ok (.iadd, 1) := by decide +kernel
theorem d_Ed_edit_218 : decode b_Ed_edit 218 = .ok (.putfield 88, 3) := by decide +kernel
theorem d_Ed_edit_221 : decode b_Ed_edit 221 = .ok (.iload 5, 2) := by decide +kernel
theorem d_Ed_edit_223 : decode b_Ed_edit 223 = .ok (.iconst 1, 1) := by decide +kernel
theorem d_Ed_edit_224 : decode b_Ed_edit 224 = .ok (.isub, 1) := by decide +kernel
theorem d_Ed_edit_225 : decode b_Ed_edit 225 = .ok (.istore 10, 2) := by decide +kernel
theorem d_Ed_edit_227 : decode b_Ed_edit 227 = .ok (.iload 10, 2) := by decide +kernel
theorem d_Ed_edit_229 : decode b_Ed_edit 229 = .ok (.ifCond .lt 27, 3) := by decide +kernel
theorem d_Ed_edit_232 : decode b_Ed_edit 232 = .ok (.aload_n 0, 1) := by decide +kernel
theorem d_Ed_edit_233 : decode b_Ed_edit 233 = .ok (.getfield 19, 3) := by decide +kernel
theorem d_Ed_edit_236 : decode b_Ed_edit 236 = .ok (.lload_n 3, 1) := by decide +kernel
theorem d_Ed_edit_237 : decode b_Ed_edit 237 = .ok (.iconst 4, 1) := by decide +kernel
theorem d_Ed_edit_238 : decode b_Ed_edit 238 = .ok (.iload 10, 2) := by decide +kernel
theorem d_Ed_edit_240 : decode b_Ed_edit 240 = .ok (.imul, 1) := by decide +kernel
theorem d_Ed_edit_241 : decode b_Ed_edit 241 = .ok (.lshr, 1) := by decide +kernel
theorem d_Ed_edit_242 : decode b_Ed_edit 242 = .ok (.ldc2_w 62, 3) := by decide +kernel
theorem d_Ed_edit_245 : decode b_Ed_edit 245 = .ok (.land, 1) := by decide +kernel
theorem d_Ed_edit_246 : decode b_Ed_edit 246 = .ok (.l2i, 1) := by decide +kernel
theorem d_Ed_edit_247 : decode b_Ed_edit 247 = .ok (.invokevirtual 91, 3) := by decide +kernel
theorem d_Ed_edit_250 : decode b_Ed_edit 250 = .ok (.iinc 10 (-1), 3) := by decide +kernel
theorem d_Ed_edit_253 : decode b_Ed_edit 253 = .ok (.goto (-26), 3) := by decide +kernel
theorem d_Ed_edit_256 : decode b_Ed_edit 256 = .ok (.aload_n 0, 1) := by decide +kernel
theorem d_Ed_edit_257 : decode b_Ed_edit 257 = .ok (.iconst 0, 1) := by decide +kernel
theorem d_Ed_edit_258 : decode b_Ed_edit 258 = .ok (.putfield 94, 3) := by decide +kernel
theorem d_Ed_edit_261 : decode b_Ed_edit 261 = .ok (.aload_n 0, 1) := by decide +kernel
theorem d_Ed_edit_262 : decode b_Ed_edit 262 = .ok (.iconst 0, 1) := by decide +kernel
theorem d_Ed_edit_263 : decode b_Ed_edit 263 = .ok (.putfield 97, 3) := by decide +kernel
theorem d_Ed_edit_266 : decode b_Ed_edit 266 = .ok (.iload 8, 2) := by decide +kernel
theorem d_Ed_edit_268 : decode b_Ed_edit 268 = .ok (.ifCond .ne 19, 3) := by decide +kernel
theorem d_Ed_edit_271 : decode b_Ed_edit 271 = .ok (.aload_n 0, 1) := by decide +kernel
theorem d_Ed_edit_272 : decode b_Ed_edit 272 = .ok (.iload 9, 2) := by decide +kernel
theorem d_Ed_edit_274 : decode b_Ed_edit 274 = .ok (.iload_n 1, 1) := by decide +kernel
theorem d_Ed_edit_275 : decode b_Ed_edit 275 = .ok (.iload 5, 2) := by decide +kernel
theorem d_Ed_edit_277 : decode b_Ed_edit 277 = .ok (.iadd, 1) := by decide +kernel
theorem d_Ed_edit_278 : decode b_Ed_edit 278 = .ok (.iload 6, 2) := by decide +kernel
theorem d_Ed_edit_280 : decode b_Ed_edit 280 = .ok (.iload_n 1, 1) := by decide +kernel
theorem d_Ed_edit_281 : decode b_Ed_edit 281 = .ok (.isub, 1) := by decide +kernel
theorem d_Ed_edit_282 : decode b_Ed_edit 282 = .ok (.iload_n 2, 1) := by decide +kernel
theorem d_Ed_edit_283 : decode b_Ed_edit 283 = .ok (.isub, 1) := by decide +kernel
theorem d_Ed_edit_284 : decode b_Ed_edit 284 = .ok (.invokevirtual 100, 3) := by decide +kernel
theorem d_Ed_edit_287 : decode b_Ed_edit 287 = .ok (.aload_n 0, 1) := by decide +kernel
theorem d_Ed_edit_288 : decode b_Ed_edit 288 = .ok (.dup, 1) := by decide +kernel
theorem d_Ed_edit_289 : decode b_Ed_edit 289 = .ok (.getfield 104, 3) := by decide +kernel
theorem d_Ed_edit_292 : decode b_Ed_edit 292 = .ok (.iconst 1, 1) := by decide +kernel
theorem d_Ed_edit_293 : decode b_Ed_edit 293 = .ok (.iadd, 1) := by decide +kernel
theorem d_Ed_edit_294 : decode b_Ed_edit 294 = .ok (.putfield 104, 3) := by decide +kernel
theorem d_Ed_edit_297 : decode b_Ed_edit 297 = .ok (.aload_n 0, 1) := by decide +kernel
theorem d_Ed_edit_298 : decode b_Ed_edit 298 = .ok (.getfield 94, 3) := by decide +kernel
theorem d_Ed_edit_301 : decode b_Ed_edit 301 = .ok (.ireturn, 1) := by decide +kernel
theorem d_Ed_rescan_0 : decode b_Ed_rescan 0 = .ok (.aload_n 0, 1) := by decide +kernel
theorem d_Ed_rescan_1 : decode b_Ed_rescan 1 = .ok (.getfield 19, 3) := by decide +kernel
theorem d_Ed_rescan_4 : decode b_Ed_rescan 4 = .ok (.invokevirtual 34, 3) := by decide +kernel
theorem d_Ed_rescan_7 : decode b_Ed_rescan 7 = .ok (.istore 4, 2) := by decide +kernel
theorem d_Ed_rescan_9 : decode b_Ed_rescan 9 = .ok (.iload_n 1, 1) := by decide +kernel
theorem d_Ed_rescan_10 : decode b_Ed_rescan 10 = .ok (.istore 5, 2) := by decide +kernel
theorem d_Ed_rescan_12 : decode b_Ed_rescan 12 = .ok (.iconst 0, 1) := by decide +kernel
theorem d_Ed_rescan_13 : decode b_Ed_rescan 13 = .ok (.istore 6, 2) := by decide +kernel
theorem d_Ed_rescan_15 : decode b_Ed_rescan 15 = .ok (.iload 5, 2) := by decide +kernel
theorem d_Ed_rescan_17 : decode b_Ed_rescan 17 = .ok (.iload 4, 2) := by decide +kernel
theorem d_Ed_rescan_19 : decode b_Ed_rescan 19 = .ok (.if_icmp .ge 220, 3) := by decide +kernel
theorem d_Ed_rescan_22 : decode b_Ed_rescan 22 = .ok (.iload 6, 2) := by decide +kernel
theorem d_Ed_rescan_24 : decode b_Ed_rescan 24 = .ok (.ifCond .ne 215, 3) := by decide +kernel
theorem d_Ed_rescan_27 : decode b_Ed_rescan 27 = .ok (.aload_n 0, 1) := by decide +kernel
theorem d_Ed_rescan_28 : decode b_Ed_rescan 28 = .ok (.getfield 26, 3) := by decide +kernel
theorem d_Ed_rescan_31 : decode b_Ed_rescan 31 = .ok (.getfield 107, 3) := by decide +kernel
theorem d_Ed_rescan_34 : decode b_Ed_rescan 34 = .ok (.sipush 401, 3) := by decide +kernel
theorem d_Ed_rescan_37 : decode b_Ed_rescan 37 = .ok (.if_icmp .ge 61, 3) := by decide +kernel
theorem d_Ed_rescan_40 : decode b_Ed_rescan 40 = .ok (.aload_n 0, 1) := by decide +kernel
theorem d_Ed_rescan_41 : decode b_Ed_rescan 41 = .ok (.getfield 26, 3) := by decide +kernel
theorem d_Ed_rescan_44 : decode b_Ed_rescan 44 = .ok (.getfield 108, 3) := by decide +kernel
theorem d_Ed_rescan_47 : decode b_Ed_rescan 47 = .ok (.aload_n 0, 1) := by decide +kernel
theorem d_Ed_rescan_48 : decode b_Ed_rescan 48 = .ok (.getfield 26, 3) := by decide +kernel
theorem d_Ed_rescan_51 : decode b_Ed_rescan 51 = .ok (.getfield 107, 3) := by decide +kernel
theorem d_Ed_rescan_54 : decode b_Ed_rescan 54 = .ok (.iaload, 1) := by decide +kernel
theorem d_Ed_rescan_55 : decode b_Ed_rescan 55 = .ok (.iload_n 3, 1) := by decide +kernel
theorem d_Ed_rescan_56 : decode b_Ed_rescan 56 = .ok (.if_icmp .gt 26, 3) := by decide +kernel
theorem d_Ed_rescan_59 : decode b_Ed_rescan 59 = .ok (.iload 4, 2) := by decide +kernel
theorem d_Ed_rescan_61 : decode b_Ed_rescan 61 = .ok (.aload_n 0, 1) := by decide +kernel
theorem d_Ed_rescan_62 : decode b_Ed_rescan 62 = .ok (.getfield 26, 3) := by decide +kernel
theorem d_Ed_rescan_65 : decode b_Ed_rescan 65 = .ok (.getfield 108, 3) := by decide +kernel
theorem d_Ed_rescan_68 : decode b_Ed_rescan 68 = .ok (.aload_n 0, 1) := by decide +kernel
theorem d_Ed_rescan_69 : decode b_Ed_rescan 69 = .ok (.getfield 26, 3) := by decide +kernel
theorem d_Ed_rescan_72 : decode b_Ed_rescan 72 = .ok (.getfield 107, 3) := by decide +kernel
theorem d_Ed_rescan_75 : decode b_Ed_rescan 75 = .ok (.iaload, 1) := by decide +kernel
theorem d_Ed_rescan_76 : decode b_Ed_rescan 76 = .ok (.isub, 1) := by decide +kernel
theorem d_Ed_rescan_77 : decode b_Ed_rescan 77 = .ok (.iload 5, 2) := by decide +kernel
theorem d_Ed_rescan_79 : decode b_Ed_rescan 79 = .ok (.if_icmp .ge 19, 3) := by decide +kernel
theorem d_Ed_rescan_82 : decode b_Ed_rescan 82 = .ok (.aload_n 0, 1) := by decide +kernel
theorem d_Ed_rescan_83 : decode b_Ed_rescan 83 = .ok (.getfield 26, 3) := by decide +kernel
theorem d_Ed_rescan_86 : decode b_Ed_rescan 86 = .ok (.dup, 1) := by decide +kernel
theorem d_Ed_rescan_87 : decode b_Ed_rescan 87 = .ok (.getfield 107, 3) := by decide +kernel
theorem d_Ed_rescan_90 : decode b_Ed_rescan 90 = .ok (.iconst 1, 1) := by decide +kernel
theorem d_Ed_rescan_91 : decode b_Ed_rescan 91 = .ok (.iadd, 1) := by decide +kernel
theorem d_Ed_rescan_92 : decode b_Ed_rescan 92 = .ok (.putfield 107, 3) := by decide +kernel
theorem d_Ed_rescan_95 : decode b_Ed_rescan 95 = .ok (.goto (-68), 3) := by decide +kernel
theorem d_Ed_rescan_98 : decode b_Ed_rescan 98 = .ok (.iload 5, 2) := by decide +kernel
theorem d_Ed_rescan_100 : decode b_Ed_rescan 100 = .ok (.iload_n 2, 1) := by decide +kernel
theorem d_Ed_rescan_101 : decode b_Ed_rescan 101 = .ok (.if_icmp .lt 43, 3) := by decide +kernel
theorem d_Ed_rescan_104 : decode b_Ed_rescan 104 = .ok (.aload_n 0, 1) := by decide +kernel
theorem d_Ed_rescan_105 : decode b_Ed_rescan 105 = .ok (.getfield 26, 3) := by decide +kernel
theorem d_Ed_rescan_108 : decode b_Ed_rescan 108 = .ok (.getfield 107, 3) := by decide +kernel
theorem d_Ed_rescan_111 : decode b_Ed_rescan 111 = .ok (.sipush 401, 3) := by decide +kernel
theorem d_Ed_rescan_114 : decode b_Ed_rescan 114 = .ok (.if_icmp .ge 30, 3) := by decide +kernel
theorem d_Ed_rescan_117 : decode b_Ed_rescan 117 = .ok (.iload 4, 2) := by decide +kernel
theorem d_Ed_rescan_119 : decode b_Ed_rescan 119 = .ok (.aload_n 0, 1) := by decide +kernel
theorem d_Ed_rescan_120 : decode b_Ed_rescan 120 = .ok (.getfield 26, 3) := by decide +kernel
theorem d_Ed_rescan_123 : decode b_Ed_rescan 123 = .ok (.getfield 108, 3) := by decide +kernel
theorem d_Ed_rescan_126 : decode b_Ed_rescan 126 = .ok (.aload_n 0, 1) := by decide +kernel
theorem d_Ed_rescan_127 : decode b_Ed_rescan 127 = .ok (.getfield 26, 3) := by decide +kernel
theorem d_Ed_rescan_130 : decode b_Ed_rescan 130 = .ok (.getfield 107, 3) := by decide +kernel
theorem d_Ed_rescan_133 : decode b_Ed_rescan 133 = .ok (.iaload, 1) := by decide +kernel
theorem d_Ed_rescan_134 : decode b_Ed_rescan 134 = .ok (.isub, 1) := by decide +kernel
theorem d_Ed_rescan_135 : decode b_Ed_rescan 135 = .ok (.iload 5, 2) := by decide +kernel
theorem d_Ed_rescan_137 : decode b_Ed_rescan 137 = .ok (.if_icmp .ne 7, 3) := by decide +kernel
theorem d_Ed_rescan_140 : decode b_Ed_rescan 140 = .ok (.iconst 1, 1) := by decide +kernel
theorem d_Ed_rescan_141 : decode b_Ed_rescan 141 = .ok (.goto 4, 3) := by decide +kernel
theorem d_Ed_rescan_144 : decode b_Ed_rescan 144 = .ok (.iconst 0, 1) := by decide +kernel
theorem d_Ed_rescan_145 : decode b_Ed_rescan 145 = .ok (.istore 7, 2) := by decide +kernel
theorem d_Ed_rescan_147 : decode b_Ed_rescan 147 = .ok (.iload 7, 2) := by decide +kernel
theorem d_Ed_rescan_149 : decode b_Ed_rescan 149 = .ok (.ifCond .eq 4, 3) := by decide +kernel
theorem d_Ed_rescan_152 : decode b_Ed_rescan 152 = .ok (.return_, 1) := by decide +kernel
theorem d_Ed_rescan_153 : decode b_Ed_rescan 153 = .ok (.aload_n 0, 1) := by decide +kernel
theorem d_Ed_rescan_154 : decode b_Ed_rescan 154 = .ok (.iload 5, 2) := by decide +kernel
theorem d_Ed_rescan_156 : decode b_Ed_rescan 156 = .ok (.invokevirtual 112, 3) := by decide +kernel
theorem d_Ed_rescan_159 : decode b_Ed_rescan 159 = .ok (.aload_n 0, 1) := by decide +kernel
theorem d_Ed_rescan_160 : decode b_Ed_rescan 160 = .ok (.dup, 1) := by decide +kernel
theorem d_Ed_rescan_161 : decode b_Ed_rescan 161 = .ok (.getfield 94, 3) := by decide +kernel
theorem d_Ed_rescan_164 : decode b_Ed_rescan 164 = .ok (.aload_n 0, 1) := by decide +kernel
theorem d_Ed_rescan_165 : decode b_Ed_rescan 165 = .ok (.getfield 48, 3) := by decide +kernel
theorem d_Ed_rescan_168 : decode b_Ed_rescan 168 = .ok (.iadd, 1) := by decide +kernel
theorem d_Ed_rescan_169 : decode b_Ed_rescan 169 = .ok (.putfield 94, 3) := by decide +kernel
theorem d_Ed_rescan_172 : decode b_Ed_rescan 172 = .ok (.aload_n 0, 1) := by decide +kernel
theorem d_Ed_rescan_173 : decode b_Ed_rescan 173 = .ok (.getfield 26, 3) := by decide +kernel
theorem d_Ed_rescan_176 : decode b_Ed_rescan 176 = .ok (.iload 5, 2) := by decide +kernel
theorem d_Ed_rescan_178 : decode b_Ed_rescan 178 = .ok (.aload_n 0, 1) := by decide +kernel
theorem d_Ed_rescan_179 : decode b_Ed_rescan 179 = .ok (.getfield 45, 3) := by decide +kernel
theorem d_Ed_rescan_182 : decode b_Ed_rescan 182 = .ok (.aload_n 0, 1) := by decide +kernel
theorem d_Ed_rescan_183 : decode b_Ed_rescan 183 = .ok (.getfield 48, 3) := by decide +kernel
theorem d_Ed_rescan_186 : decode b_Ed_rescan 186 = .ok (.aload_n 0, 1) := by decide +kernel
theorem d_Ed_rescan_187 : decode b_Ed_rescan 187 = .ok (.getfield 51, 3) := by decide +kernel
theorem d_Ed_rescan_190 : decode b_Ed_rescan 190 = .ok (.invokevirtual 115, 3) := by decide +kernel
theorem d_Ed_rescan_193 : decode b_Ed_rescan 193 = .ok (.aload_n 0, 1) := by decide +kernel
theorem d_Ed_rescan_194 : decode b_Ed_rescan 194 = .ok (.getfield 51, 3) := by decide +kernel
theorem d_Ed_rescan_197 : decode b_Ed_rescan 197 = .ok (.iconst (-1), 1) := by decide +kernel
theorem d_Ed_rescan_198 : decode b_Ed_rescan 198 = .ok (.if_icmp .ne 7, 3) := by decide +kernel
theorem d_Ed_rescan_201 : decode b_Ed_rescan 201 = .ok (.iconst 1, 1) := by decide +kernel
theorem d_Ed_rescan_202 : decode b_Ed_rescan 202 = .ok (.goto 4, 3) := by decide +kernel
theorem d_Ed_rescan_205 : decode b_Ed_rescan 205 = .ok (.iconst 0, 1) := by decide +kernel
theorem d_Ed_rescan_206 : decode b_Ed_rescan 206 = .ok (.istore 6, 2) := by decide +kernel
theorem d_Ed_rescan_208 : decode b_Ed_rescan 208 = .ok (.aload_n 0, 1) := by decide +kernel
theorem d_Ed_rescan_209 : decode b_Ed_rescan 209 = .ok (.dup, 1) := by decide +kernel
theorem d_Ed_rescan_210 : decode b_Ed_rescan 210 = .ok (.getfield 97, 3) := by decide +kernel
theorem d_Ed_rescan_213 : decode b_Ed_rescan 213 = .ok (.iload 6, 2) := by decide +kernel
theorem d_Ed_rescan_215 : decode b_Ed_rescan 215 = .ok (.ifCond .eq 7, 3) := by decide +kernel
theorem d_Ed_rescan_218 : decode b_Ed_rescan 218 = .ok (.iconst 0, 1) := by decide +kernel
theorem d_Ed_rescan_219 : decode b_Ed_rescan 219 = .ok (.goto 4, 3) := by decide +kernel
theorem d_Ed_rescan_222 : decode b_Ed_rescan 222 = .ok (.iconst 1, 1) := by decide +kernel
theorem d_Ed_rescan_223 : decode b_Ed_rescan 223 = .ok (.iadd, 1) := by decide +kernel
theorem d_Ed_rescan_224 : decode b_Ed_rescan 224 = .ok (.putfield 97, 3) := by decide +kernel
theorem d_Ed_rescan_227 : decode b_Ed_rescan 227 = .ok (.iload 5, 2) := by decide +kernel
theorem d_Ed_rescan_229 : decode b_Ed_rescan 229 = .ok (.aload_n 0, 1) := by decide +kernel
theorem d_Ed_rescan_230 : decode b_Ed_rescan 230 = .ok (.getfield 45, 3) := by decide +kernel
theorem d_Ed_rescan_233 : decode b_Ed_rescan 233 = .ok (.iadd, 1) := by decide +kernel
theorem d_Ed_rescan_234 : decode b_Ed_rescan 234 = .ok (.istore 5, 2) := by decide +kernel
theorem d_Ed_rescan_236 : decode b_Ed_rescan 236 = .ok (.goto (-221), 3) := by decide +kernel
theorem d_Ed_rescan_239 : decode b_Ed_rescan 239 = .ok (.aload_n 0, 1) := by decide +kernel
theorem d_Ed_rescan_240 : decode b_Ed_rescan 240 = .ok (.getfield 26, 3) := by decide +kernel
theorem d_Ed_rescan_243 : decode b_Ed_rescan 243 = .ok (.sipush 401, 3) := by decide +kernel
theorem d_Ed_rescan_246 : decode b_Ed_rescan 246 = .ok (.putfield 107, 3) := by decide +kernel
theorem d_Ed_rescan_249 : decode b_Ed_rescan 249 = .ok (.return_, 1) := by decide +kernel
theorem d_Ed_isFailed_0 : decode b_Ed_isFailed 0 = .ok (.aload_n 0, 1) := by decide +kernel
theorem d_Ed_isFailed_1 : decode b_Ed_isFailed 1 = .ok (.getfield 26, 3) := by decide +kernel
theorem d_Ed_isFailed_4 : decode b_Ed_isFailed 4 = .ok (.invokevirtual 70, 3) := by decide +kernel
theorem d_Ed_isFailed_7 : decode b_Ed_isFailed 7 = .ok (.ifCond .le 35, 3) := by decide +kernel
theorem d_Ed_isFailed_10 : decode b_Ed_isFailed 10 = .ok (.aload_n 0, 1) := by decide +kernel
theorem d_Ed_isFailed_11 : decode b_Ed_isFailed 11 = .ok (.getfield 26, 3) := by decide +kernel
theorem d_Ed_isFailed_14 : decode b_Ed_isFailed 14 = .ok (.getfield 118, 3) := by decide +kernel
theorem d_Ed_isFailed_17 : decode b_Ed_isFailed 17 = .ok (.aload_n 0, 1) := by decide +kernel
theorem d_Ed_isFailed_18 : decode b_Ed_isFailed 18 = .ok (.getfield 26, 3) := by decide +kernel
theorem d_Ed_isFailed_21 : decode b_Ed_isFailed 21 = .ok (.aload_n 0, 1) := by decide +kernel
theorem d_Ed_isFailed_22 : decode b_Ed_isFailed 22 = .ok (.getfield 26, 3) := by decide +kernel
theorem d_Ed_isFailed_25 : decode b_Ed_isFailed 25 = .ok (.invokevirtual 70, 3) := by decide +kernel
theorem d_Ed_isFailed_28 : decode b_Ed_isFailed 28 = .ok (.iconst 1, 1) := by decide +kernel
theorem d_Ed_isFailed_29 : decode b_Ed_isFailed 29 = .ok (.isub, 1) := by decide +kernel
theorem d_Ed_isFailed_30 : decode b_Ed_isFailed 30 = .ok (.invokevirtual 78, 3) := by decide +kernel
theorem d_Ed_isFailed_33 : decode b_Ed_isFailed 33 = .ok (.baload, 1) := by decide +kernel
theorem d_Ed_isFailed_34 : decode b_Ed_isFailed 34 = .ok (.iconst (-1), 1) := by decide +kernel
theorem d_Ed_isFailed_35 : decode b_Ed_isFailed 35 = .ok (.if_icmp .ne 7, 3) := by decide +kernel
theorem d_Ed_isFailed_38 : decode b_Ed_isFailed 38 = .ok (.iconst 1, 1) := by decide +kernel
theorem d_Ed_isFailed_39 : decode b_Ed_isFailed 39 = .ok (.goto 4, 3) := by decide +kernel
theorem d_Ed_isFailed_42 : decode b_Ed_isFailed 42 = .ok (.iconst 0, 1) := by decide +kernel
theorem d_Ed_isFailed_43 : decode b_Ed_isFailed 43 = .ok (.ireturn, 1) := by decide +kernel
theorem d_Ed_tokens_0 : decode b_Ed_tokens 0 = .ok (.aload_n 0, 1) := by decide +kernel
theorem d_Ed_tokens_1 : decode b_Ed_tokens 1 = .ok (.getfield 26, 3) := by decide +kernel
theorem d_Ed_tokens_4 : decode b_Ed_tokens 4 = .ok (.invokevirtual 70, 3) := by decide +kernel
theorem d_Ed_tokens_7 : decode b_Ed_tokens 7 = .ok (.aload_n 0, 1) := by decide +kernel
theorem d_Ed_tokens_8 : decode b_Ed_tokens 8 = .ok (.invokevirtual 119, 3) := by decide +kernel
theorem d_Ed_tokens_11 : decode b_Ed_tokens 11 = .ok (.ifCond .eq 7, 3) := by decide +kernel
theorem d_Ed_tokens_14 : decode b_Ed_tokens 14 = .ok (.iconst 1, 1) := by decide +kernel
theorem d_Ed_tokens_15 : decode b_Ed_tokens 15 = .ok (.goto 4, 3) := by decide +kernel
theorem d_Ed_tokens_18 : decode b_Ed_tokens 18 = .ok (.iconst 0, 1) := by decide +kernel
theorem d_Ed_tokens_19 : decode b_Ed_tokens 19 = .ok (.isub, 1) := by decide +kernel
theorem d_Ed_tokens_20 : decode b_Ed_tokens 20 = .ok (.ireturn, 1) := by decide +kernel
theorem d_Ed_token_0 : decode b_Ed_token 0 = .ok (.iload_n 1, 1) := by decide +kernel
theorem d_Ed_token_1 : decode b_Ed_token 1 = .ok (.ifCond .lt 11, 3) := by decide +kernel
theorem d_Ed_token_4 : decode b_Ed_token 4 = .ok (.iload_n 1, 1) := by decide +kernel
theorem d_Ed_token_5 : decode b_Ed_token 5 = .ok (.aload_n 0, 1) := by decide +kernel
theorem d_Ed_token_6 : decode b_Ed_token 6 = .ok (.invokevirtual 123, 3) := by decide +kernel
theorem d_Ed_token_9 : decode b_Ed_token 9 = .ok (.if_icmp .lt 5, 3) := by decide +kernel
theorem d_Ed_token_12 : decode b_Ed_token 12 = .ok (.iconst (-1), 1) := by decide +kernel
theorem d_Ed_token_13 : decode b_Ed_token 13 = .ok (.ireturn, 1) := by decide +kernel
theorem d_Ed_token_14 : decode b_Ed_token 14 = .ok (.aload_n 0, 1) := by decide +kernel
theorem d_Ed_token_15 : decode b_Ed_token 15 = .ok (.getfield 26, 3) := by decide +kernel
theorem d_Ed_token_18 : decode b_Ed_token 18 = .ok (.iload_n 1, 1) := by decide +kernel
theorem d_Ed_token_19 : decode b_Ed_token 19 = .ok (.invokevirtual 78, 3) := by decide +kernel
theorem d_Ed_token_22 : decode b_Ed_token 22 = .ok (.istore_n 3, 1) := by decide +kernel
theorem d_Ed_token_23 : decode b_Ed_token 23 = .ok (.iload_n 2, 1) := by decide +kernel
theorem d_Ed_token_24 : decode b_Ed_token 24 = .ok (.tableswitch 78 0 3 #[32, 48, 58, 68], 32) := by decide +kernel
theorem d_Ed_token_56 : decode b_Ed_token 56 = .ok (.aload_n 0, 1) := by decide +kernel
theorem d_Ed_token_57 : decode b_Ed_token 57 = .ok (.getfield 26, 3) := by decide +kernel
theorem d_Ed_token_60 : decode b_Ed_token 60 = .ok (.iload_n 1, 1) := by decide +kernel
theorem d_Ed_token_61 : decode b_Ed_token 61 = .ok (.aload_n 0, 1) := by decide +kernel
theorem d_Ed_token_62 : decode b_Ed_token 62 = .ok (.getfield 19, 3) := by decide +kernel
theorem d_Ed_token_65 : decode b_Ed_token 65 = .ok (.invokevirtual 34, 3) := by decide +kernel
theorem d_Ed_token_68 : decode b_Ed_token 68 = .ok (.invokevirtual 71, 3) := by decide +kernel
theorem d_Ed_token_71 : decode b_Ed_token 71 = .ok (.ireturn, 1) := by decide +kernel
theorem d_Ed_token_72 : decode b_Ed_token 72 = .ok (.aload_n 0, 1) := by decide +kernel
theorem d_Ed_token_73 : decode b_Ed_token 73 = .ok (.getfield 26, 3) := by decide +kernel
theorem d_Ed_token_76 : decode b_Ed_token 76 = .ok (.getfield 126, 3) := by decide +kernel
theorem d_Ed_token_79 : decode b_Ed_token 79 = .ok (.iload_n 3, 1) := by decide +kernel
theorem d_Ed_token_80 : decode b_Ed_token 80 = .ok (.saload, 1) := by decide +kernel
theorem d_Ed_token_81 : decode b_Ed_token 81 = .ok (.ireturn, 1) := by decide +kernel
theorem d_Ed_token_82 : decode b_Ed_token 82 = .ok (.aload_n 0, 1) := by decide +kernel
theorem d_Ed_token_83 : decode b_Ed_token 83 = .ok (.getfield 26, 3) := by decide +kernel
theorem d_Ed_token_86 : decode b_Ed_token 86 = .ok (.getfield 118, 3) := by decide +kernel
theorem d_Ed_token_89 : decode b_Ed_token 89 = .ok (.iload_n 3, 1) := by decide +kernel
theorem d_Ed_token_90 : decode b_Ed_token 90 = .ok (.baload, 1) := by decide +kernel
theorem d_Ed_token_91 : decode b_Ed_token 91 = .ok (.ireturn, 1) := by decide +kernel
theorem d_Ed_token_92 : decode b_Ed_token 92 = .ok (.aload_n 0, 1) := by decide +kernel
theorem d_Ed_token_93 : decode b_Ed_token 93 = .ok (.getfield 26, 3) := by decide +kernel
theorem d_Ed_token_96 : decode b_Ed_token 96 = .ok (.getfield 74, 3) := by decide +kernel
theorem d_Ed_token_99 : decode b_Ed_token 99 = .ok (.iload_n 3, 1) := by decide +kernel
theorem d_Ed_token_100 : decode b_Ed_token 100 = .ok (.saload, 1) := by decide +kernel
theorem d_Ed_token_101 : decode b_Ed_token 101 = .ok (.ireturn, 1) := by decide +kernel
theorem d_Ed_token_102 : decode b_Ed_token 102 = .ok (.iconst (-1), 1) := by decide +kernel
theorem d_Ed_token_103 : decode b_Ed_token 103 = .ok (.ireturn, 1) := by decide +kernel
theorem d_Ed_tokenAt_0 : decode b_Ed_tokenAt 0 = .ok (.iload_n 1, 1) := by decide +kernel
theorem d_Ed_tokenAt_1 : decode b_Ed_tokenAt 1 = .ok (.ifCond .ge 5, 3) := by decide +kernel
theorem d_Ed_tokenAt_4 : decode b_Ed_tokenAt 4 = .ok (.iconst (-1), 1) := by decide +kernel
theorem d_Ed_tokenAt_5 : decode b_Ed_tokenAt 5 = .ok (.ireturn, 1) := by decide +kernel
theorem d_Ed_tokenAt_6 : decode b_Ed_tokenAt 6 = .ok (.iconst 0, 1) := by decide +kernel
theorem d_Ed_tokenAt_7 : decode b_Ed_tokenAt 7 = .ok (.istore_n 2, 1) := by decide +kernel
theorem d_Ed_tokenAt_8 : decode b_Ed_tokenAt 8 = .ok (.aload_n 0, 1) := by decide +kernel
theorem d_Ed_tokenAt_9 : decode b_Ed_tokenAt 9 = .ok (.invokevirtual 123, 3) := by decide +kernel
theorem d_Ed_tokenAt_12 : decode b_Ed_tokenAt 12 = .ok (.istore_n 3, 1) := by decide +kernel
theorem d_Ed_tokenAt_13 : decode b_Ed_tokenAt 13 = .ok (.iload_n 2, 1) := by decide +kernel
theorem d_Ed_tokenAt_14 : decode b_Ed_tokenAt 14 = .ok (.iload_n 3, 1) := by decide +kernel
theorem d_Ed_tokenAt_15 : decode b_Ed_tokenAt 15 = .ok (.if_icmp .ge 44, 3) := by decide +kernel
theorem d_Ed_tokenAt_18 : decode b_Ed_tokenAt 18 = .ok (.iload_n 2, 1) := by decide +kernel
theorem d_Ed_tokenAt_19 : decode b_Ed_tokenAt 19 = .ok (.iload_n 3, 1) := by decide +kernel
theorem d_Ed_tokenAt_20 : decode b_Ed_tokenAt 20 = .ok (.iadd, 1) := by decide +kernel
theorem d_Ed_tokenAt_21 : decode b_Ed_tokenAt 21 = .ok (.iconst 2, 1) := by decide +kernel
theorem d_Ed_tokenAt_22 : decode b_Ed_tokenAt 22 = .ok (.idiv, 1) := by decide +kernel
theorem d_Ed_tokenAt_23 : decode b_Ed_tokenAt 23 = .ok (.istore 4, 2) := by decide +kernel
theorem d_Ed_tokenAt_25 : decode b_Ed_tokenAt 25 = .ok (.aload_n 0, 1) := by decide +kernel
theorem d_Ed_tokenAt_26 : decode b_Ed_tokenAt 26 = .ok (.getfield 26, 3) := by decide +kernel
theorem d_Ed_tokenAt_29 : decode b_Ed_tokenAt 29 = .ok (.iload 4, 2) := by decide +kernel
theorem d_Ed_tokenAt_31 : decode b_Ed_tokenAt 31 = .ok (.aload_n 0, 1) := by decide +kernel
theorem d_Ed_tokenAt_32 : decode b_Ed_tokenAt 32 = .ok (.getfield 19, 3) := by decide +kernel
theorem d_Ed_tokenAt_35 : decode b_Ed_tokenAt 35 = .ok (.invokevirtual 34, 3) := by decide +kernel
theorem d_Ed_tokenAt_38 : decode b_Ed_tokenAt 38 = .ok (.invokevirtual 71, 3) := by decide +kernel
theorem d_Ed_tokenAt_41 : decode b_Ed_tokenAt 41 = .ok (.iload_n 1, 1) := by decide +kernel
theorem d_Ed_tokenAt_42 : decode b_Ed_tokenAt 42 = .ok (.if_icmp .gt 11, 3) := by decide +kernel
theorem d_Ed_tokenAt_45 : decode b_Ed_tokenAt 45 = .ok (.iload 4, 2) := by decide +kernel
theorem d_Ed_tokenAt_47 : decode b_Ed_tokenAt 47 = .ok (.iconst 1, 1) := by decide +kernel
theorem d_Ed_tokenAt_48 : decode b_Ed_tokenAt 48 = .ok (.iadd, 1) := by decide +kernel
theorem d_Ed_tokenAt_49 : decode b_Ed_tokenAt 49 = .ok (.istore_n 2, 1) := by decide +kernel
theorem d_Ed_tokenAt_50 : decode b_Ed_tokenAt 50 = .ok (.goto 6, 3) := by decide +kernel
theorem d_Ed_tokenAt_53 : decode b_Ed_tokenAt 53 = .ok (.iload 4, 2) := by decide +kernel
theorem d_Ed_tokenAt_55 : decode b_Ed_tokenAt 55 = .ok (.istore_n 3, 1) := by decide +kernel
theorem d_Ed_tokenAt_56 : decode b_Ed_tokenAt 56 = .ok (.goto (-43), 3) := by decide +kernel
theorem d_Ed_tokenAt_59 : decode b_Ed_tokenAt 59 = .ok (.iload_n 2, 1) := by decide +kernel
theorem d_Ed_tokenAt_60 : decode b_Ed_tokenAt 60 = .ok (.iconst 1, 1) := by decide +kernel
theorem d_Ed_tokenAt_61 : decode b_Ed_tokenAt 61 = .ok (.isub, 1) := by decide +kernel
theorem d_Ed_tokenAt_62 : decode b_Ed_tokenAt 62 = .ok (.istore 4, 2) := by decide +kernel
theorem d_Ed_tokenAt_64 : decode b_Ed_tokenAt 64 = .ok (.iload 4, 2) := by decide +kernel
theorem d_Ed_tokenAt_66 : decode b_Ed_tokenAt 66 = .ok (.ifCond .lt 46, 3) := by decide +kernel
theorem d_Ed_tokenAt_69 : decode b_Ed_tokenAt 69 = .ok (.iload_n 1, 1) := by decide +kernel
theorem d_Ed_tokenAt_70 : decode b_Ed_tokenAt 70 = .ok (.aload_n 0, 1) := by decide +kernel
theorem d_Ed_tokenAt_71 : decode b_Ed_tokenAt 71 = .ok (.getfield 26, 3) := by decide +kernel
theorem d_Ed_tokenAt_74 : decode b_Ed_tokenAt 74 = .ok (.iload 4, 2) := by decide +kernel
theorem d_Ed_tokenAt_76 : decode b_Ed_tokenAt 76 = .ok (.aload_n 0, 1) := by decide +kernel
theorem d_Ed_tokenAt_77 : decode b_Ed_tokenAt 77 = .ok (.getfield 19, 3) := by decide +kernel
theorem d_Ed_tokenAt_80 : decode b_Ed_tokenAt 80 = .ok (.invokevirtual 34, 3) := by decide +kernel
theorem d_Ed_tokenAt_83 : decode b_Ed_tokenAt 83 = .ok (.invokevirtual 71, 3) := by decide +kernel
theorem d_Ed_tokenAt_86 : decode b_Ed_tokenAt 86 = .ok (.aload_n 0, 1) := by decide +kernel
theorem d_Ed_tokenAt_87 : decode b_Ed_tokenAt 87 = .ok (.getfield 26, 3) := by decide +kernel
theorem d_Ed_tokenAt_90 : decode b_Ed_tokenAt 90 = .ok (.getfield 126, 3) := by decide +kernel
theorem d_Ed_tokenAt_93 : decode b_Ed_tokenAt 93 = .ok (.aload_n 0, 1) := by decide +kernel
theorem d_Ed_tokenAt_94 : decode b_Ed_tokenAt 94 = .ok (.getfield 26, 3) := by decide +kernel
theorem d_Ed_tokenAt_97 : decode b_Ed_tokenAt 97 = .ok (.iload 4, 2) := by decide +kernel
theorem d_Ed_tokenAt_99 : decode b_Ed_tokenAt 99 = .ok (.invokevirtual 78, 3) := by decide +kernel
theorem d_Ed_tokenAt_102 : decode b_Ed_tokenAt 102 = .ok (.saload, 1) := by decide +kernel
theorem d_Ed_tokenAt_103 : decode b_Ed_tokenAt 103 = .ok (.iadd, 1) := by decide +kernel
theorem d_Ed_tokenAt_104 : decode b_Ed_tokenAt 104 = .ok (.if_icmp .ge 8, 3) := by decide +kernel
theorem d_Ed_tokenAt_107 : decode b_Ed_tokenAt 107 = .ok (.iload 4, 2) := by decide +kernel
theorem d_Ed_tokenAt_109 : decode b_Ed_tokenAt 109 = .ok (.goto 4, 3) := by decide +kernel
theorem d_Ed_tokenAt_112 : decode b_Ed_tokenAt 112 = .ok (.iconst (-1), 1) := by decide +kernel
theorem d_Ed_tokenAt_113 : decode b_Ed_tokenAt 113 = .ok (.ireturn, 1) := by decide +kernel
theorem d_Ed_symbol_0 : decode b_Ed_symbol 0 = .ok (.aload_n 0, 1) := by decide +kernel
theorem d_Ed_symbol_1 : decode b_Ed_symbol 1 = .ok (.getfield 19, 3) := by decide +kernel
theorem d_Ed_symbol_4 : decode b_Ed_symbol 4 = .ok (.iload_n 1, 1) := by decide +kernel
theorem d_Ed_symbol_5 : decode b_Ed_symbol 5 = .ok (.invokevirtual 54, 3) := by decide +kernel
theorem d_Ed_symbol_8 : decode b_Ed_symbol 8 = .ok (.ireturn, 1) := by decide +kernel
theorem d_Ed_count_0 : decode b_Ed_count 0 = .ok (.aload_n 0, 1) := by decide +kernel
theorem d_Ed_count_1 : decode b_Ed_count 1 = .ok (.getfield 26, 3) := by decide +kernel
theorem d_Ed_count_4 : decode b_Ed_count 4 = .ok (.invokevirtual 70, 3) := by decide +kernel
theorem d_Ed_count_7 : decode b_Ed_count 7 = .ok (.iconst 1, 1) := by decide +kernel
theorem d_Ed_count_8 : decode b_Ed_count 8 = .ok (.isub, 1) := by decide +kernel
theorem d_Ed_count_9 : decode b_Ed_count 9 = .ok (.istore_n 2, 1) := by decide +kernel
theorem d_Ed_count_10 : decode b_Ed_count 10 = .ok (.iload_n 1, 1) := by decide +kernel
theorem d_Ed_count_11 : decode b_Ed_count 11 = .ok (.tableswitch 124 0 6 #[41, 46, 54, 81, 109, 114, 119], 41) := by decide +kernel
theorem d_Ed_count_52 : decode b_Ed_count 52 = .ok (.aload_n 0, 1) := by decide +kernel
theorem d_Ed_count_53 : decode b_Ed_count 53 = .ok (.invokevirtual 123, 3) := by decide +kernel
theorem d_Ed_count_56 : decode b_Ed_count 56 = .ok (.ireturn, 1) := by decide +kernel
theorem d_Ed_count_57 : decode b_Ed_count 57 = .ok (.aload_n 0, 1) := by decide +kernel
theorem d_Ed_count_58 : decode b_Ed_count 58 = .ok (.getfield 19, 3) := by decide +kernel
theorem d_Ed_count_61 : decode b_Ed_count 61 = .ok (.invokevirtual 34, 3) := by decide +kernel
theorem d_Ed_count_64 : decode b_Ed_count 64 = .ok (.ireturn, 1) := by decide +kernel
theorem d_Ed_count_65 : decode b_Ed_count 65 = .ok (.aload_n 0, 1) := by decide +kernel
theorem d_Ed_count_66 : decode b_Ed_count 66 = .ok (.invokevirtual 119, 3) := by decide +kernel
theorem d_Ed_count_69 : decode b_Ed_count 69 = .ok (.ifCond .eq 21, 3) := by decide +kernel
theorem d_Ed_count_72 : decode b_Ed_count 72 = .ok (.aload_n 0, 1) := by decide +kernel
theorem d_Ed_count_73 : decode b_Ed_count 73 = .ok (.getfield 26, 3) := by decide +kernel
theorem d_Ed_count_76 : decode b_Ed_count 76 = .ok (.iload_n 2, 1) := by decide +kernel
theorem d_Ed_count_77 : decode b_Ed_count 77 = .ok (.aload_n 0, 1) := by decide +kernel
theorem d_Ed_count_78 : decode b_Ed_count 78 = .ok (.getfield 19, 3) := by decide +kernel
theorem d_Ed_count_81 : decode b_Ed_count 81 = .ok (.invokevirtual 34, 3) := by decide +kernel
theorem d_Ed_count_84 : decode b_Ed_count 84 = .ok (.invokevirtual 71, 3) := by decide +kernel
theorem d_Ed_count_87 : decode b_Ed_count 87 = .ok (.goto 4, 3) := by decide +kernel
theorem d_Ed_count_90 : decode b_Ed_count 90 = .ok (.iconst (-1), 1) := by decide +kernel
theorem d_Ed_count_91 : decode b_Ed_count 91 = .ok (.ireturn, 1) := by decide +kernel
theorem d_Ed_count_92 : decode b_Ed_count 92 = .ok (.aload_n 0, 1) := by decide +kernel
theorem d_Ed_count_93 : decode b_Ed_count 93 = .ok (.invokevirtual 119, 3) := by decide +kernel
theorem d_Ed_count_96 : decode b_Ed_count 96 = .ok (.ifCond .eq 22, 3) := by decide +kernel
theorem d_Ed_count_99 : decode b_Ed_count 99 = .ok (.aload_n 0, 1) := by decide +kernel
theorem d_Ed_count_100 : decode b_Ed_count 100 = .ok (.getfield 26, 3) := by decide +kernel
theorem d_Ed_count_103 : decode b_Ed_count 103 = .ok (.getfield 74, 3) := by decide +kernel
theorem d_Ed_count_106 : decode b_Ed_count 106 = .ok (.aload_n 0, 1) := by decide +kernel
theorem d_Ed_count_107 : decode b_Ed_count 107 = .ok (.getfield 26, 3) := by decide +kernel
theorem d_Ed_count_110 : decode b_Ed_count 110 = .ok (.iload_n 2, 1) := by decide +kernel
theorem d_Ed_count_111 : decode b_Ed_count 111 = .ok (.invokevirtual 78, 3) := by decide +kernel
theorem d_Ed_count_114 : decode b_Ed_count 114 = .ok (.saload, 1) := by decide +kernel
theorem d_Ed_count_115 : decode b_Ed_count 115 = .ok (.goto 4, 3) := by decide +kernel
theorem d_Ed_count_118 : decode b_Ed_count 118 = .ok (.iconst 0, 1) := by decide +kernel
theorem d_Ed_count_119 : decode b_Ed_count 119 = .ok (.ireturn, 1) := by decide +kernel
theorem d_Ed_count_120 : decode b_Ed_count 120 = .ok (.aload_n 0, 1) := by decide +kernel
theorem d_Ed_count_121 : decode b_Ed_count 121 = .ok (.getfield 94, 3) := by decide +kernel
theorem d_Ed_count_124 : decode b_Ed_count 124 = .ok (.ireturn, 1) := by decide +kernel
theorem d_Ed_count_125 : decode b_Ed_count 125 = .ok (.aload_n 0, 1) := by decide +kernel
theorem d_Ed_count_126 : decode b_Ed_count 126 = .ok (.getfield 97, 3) := by decide +kernel
theorem d_Ed_count_129 : decode b_Ed_count 129 = .ok (.ireturn, 1) := by decide +kernel
theorem d_Ed_count_130 : decode b_Ed_count 130 = .ok (.aload_n 0, 1) := by decide +kernel
theorem d_Ed_count_131 : decode b_Ed_count 131 = .ok (.getfield 104, 3) := by decide +kernel
theorem d_Ed_count_134 : decode b_Ed_count 134 = .ok (.ireturn, 1) := by decide +kernel
theorem d_Ed_count_135 : decode b_Ed_count 135 = .ok (.iconst (-1), 1) := by decide +kernel
theorem d_Ed_count_136 : decode b_Ed_count 136 = .ok (.ireturn, 1) := by decide +kernel
theorem d_Ed_clear_0 : decode b_Ed_clear 0 = .ok (.aload_n 0, 1) := by decide +kernel
theorem d_Ed_clear_1 : decode b_Ed_clear 1 = .ok (.invokevirtual 123, 3) := by decide +kernel
theorem d_Ed_clear_4 : decode b_Ed_clear 4 = .ok (.istore_n 1, 1) := by decide +kernel
theorem d_Ed_clear_5 : decode b_Ed_clear 5 = .ok (.aload_n 0, 1) := by decide +kernel
theorem d_Ed_clear_6 : decode b_Ed_clear 6 = .ok (.getfield 19, 3) := by decide +kernel
theorem d_Ed_clear_9 : decode b_Ed_clear 9 = .ok (.invokevirtual 129, 3) := by decide +kernel
theorem d_Ed_clear_12 : decode b_Ed_clear 12 = .ok (.aload_n 0, 1) := by decide +kernel
theorem d_Ed_clear_13 : decode b_Ed_clear 13 = .ok (.getfield 26, 3) := by decide +kernel
theorem d_Ed_clear_16 : decode b_Ed_clear 16 = .ok (.invokevirtual 132, 3) := by decide +kernel
theorem d_Ed_clear_19 : decode b_Ed_clear 19 = .ok (.aload_n 0, 1) := by decide +kernel
theorem d_Ed_clear_20 : decode b_Ed_clear 20 = .ok (.getfield 10, 3) := by decide +kernel
theorem d_Ed_clear_23 : decode b_Ed_clear 23 = .ok (.invokevirtual 133, 3) := by decide +kernel
theorem d_Ed_clear_26 : decode b_Ed_clear 26 = .ok (.aload_n 0, 1) := by decide +kernel
theorem d_Ed_clear_27 : decode b_Ed_clear 27 = .ok (.iconst 0, 1) := by decide +kernel
theorem d_Ed_clear_28 : decode b_Ed_clear 28 = .ok (.putfield 94, 3) := by decide +kernel
theorem d_Ed_clear_31 : decode b_Ed_clear 31 = .ok (.aload_n 0, 1) := by decide +kernel
theorem d_Ed_clear_32 : decode b_Ed_clear 32 = .ok (.iconst 0, 1) := by decide +kernel
theorem d_Ed_clear_33 : decode b_Ed_clear 33 = .ok (.putfield 97, 3) := by decide +kernel
theorem d_Ed_clear_36 : decode b_Ed_clear 36 = .ok (.aload_n 0, 1) := by decide +kernel
theorem d_Ed_clear_37 : decode b_Ed_clear 37 = .ok (.iconst 0, 1) := by decide +kernel
theorem d_Ed_clear_38 : decode b_Ed_clear 38 = .ok (.putfield 104, 3) := by decide +kernel
theorem d_Ed_clear_41 : decode b_Ed_clear 41 = .ok (.iload_n 1, 1) := by decide +kernel
theorem d_Ed_clear_42 : decode b_Ed_clear 42 = .ok (.ireturn, 1) := by decide +kernel
end
section
theorem d_Mo_init_0 : decode b_Mo_init 0 = .ok (.aload_n 0, 1) := by decide +kernel
theorem d_Mo_init_1 : decode b_Mo_init 1 = .ok (.invokespecial 1, 3) := by decide +kernel
theorem d_Mo_init_4 : decode b_Mo_init 4 = .ok (.aload_n 0, 1) := by decide +kernel
theorem d_Mo_init_5 : decode b_Mo_init 5 = .ok (.sipush 200, 3) := by decide +kernel
theorem d_Mo_init_8 : decode b_Mo_init 8 = .ok (.newarray .int, 2) := by decide +kernel
theorem d_Mo_init_10 : decode b_Mo_init 10 = .ok (.putfield 7, 3) := by decide +kernel
theorem d_Mo_init_13 : decode b_Mo_init 13 = .ok (.aload_n 0, 1) := by decide +kernel
theorem d_Mo_init_14 : decode b_Mo_init 14 = .ok (.bipush 20, 2) := by decide +kernel
theorem d_Mo_init_16 : decode b_Mo_init 16 = .ok (.newarray .int, 2) := by decide +kernel
theorem d_Mo_init_18 : decode b_Mo_init 18 = .ok (.putfield 13, 3) := by decide +kernel
theorem d_Mo_init_21 : decode b_Mo_init 21 = .ok (.aload_n 0, 1) := by decide +kernel
theorem d_Mo_init_22 : decode b_Mo_init 22 = .ok (.sipush 400, 3) := by decide +kernel
theorem d_Mo_init_25 : decode b_Mo_init 25 = .ok (.newarray .int, 2) := by decide +kernel
theorem d_Mo_init_27 : decode b_Mo_init 27 = .ok (.putfield 16, 3) := by decide +kernel
theorem d_Mo_init_30 : decode b_Mo_init 30 = .ok (.aload_n 0, 1) := by decide +kernel
theorem d_Mo_init_31 : decode b_Mo_init 31 = .ok (.sipush 400, 3) := by decide +kernel
theorem d_Mo_init_34 : decode b_Mo_init 34 = .ok (.newarray .int, 2) := by decide +kernel
theorem d_Mo_init_36 : decode b_Mo_init 36 = .ok (.putfield 19, 3) := by decide +kernel
theorem d_Mo_init_39 : decode b_Mo_init 39 = .ok (.aload_n 0, 1) := by decide +kernel
theorem d_Mo_init_40 : decode b_Mo_init 40 = .ok (.sipush 400, 3) := by decide +kernel
theorem d_Mo_init_43 : decode b_Mo_init 43 = .ok (.newarray .int, 2) := by decide +kernel
theorem d_Mo_init_45 : decode b_Mo_init 45 = .ok (.putfield 22, 3) := by decide +kernel
theorem d_Mo_init_48 : decode b_Mo_init 48 = .ok (.aload_n 0, 1) := by decide +kernel
theorem d_Mo_init_49 : decode b_Mo_init 49 = .ok (.sipush 400, 3) := by decide +kernel
theorem d_Mo_init_52 : decode b_Mo_init 52 = .ok (.newarray .int, 2) := by decide +kernel
theorem d_Mo_init_54 : decode b_Mo_init 54 = .ok (.putfield 25, 3) := by decide +kernel
theorem d_Mo_init_57 : decode b_Mo_init 57 = .ok (.aload_n 0, 1) := by decide +kernel
theorem d_Mo_init_58 : decode b_Mo_init 58 = .ok (.sipush 400, 3) := by decide +kernel
theorem d_Mo_init_61 : decode b_Mo_init 61 = .ok (.newarray .int, 2) := by decide +kernel
theorem d_Mo_init_63 : decode b_Mo_init 63 = .ok (.putfield 28, 3) := by decide +kernel
theorem d_Mo_init_66 : decode b_Mo_init 66 = .ok (.aload_n 0, 1) := by decide +kernel
theorem d_Mo_init_67 : decode b_Mo_init 67 = .ok (.iconst (-1), 1) := by decide +kernel
theorem d_Mo_init_68 : decode b_Mo_init 68 = .ok (.putfield 31, 3) := by decide +kernel
theorem d_Mo_init_71 : decode b_Mo_init 71 = .ok (.aload_n 0, 1) := by decide +kernel
theorem d_Mo_init_72 : decode b_Mo_init 72 = .ok (.sipush 400, 3) := by decide +kernel
theorem d_Mo_init_75 : decode b_Mo_init 75 = .ok (.newarray .int, 2) := by decide +kernel
theorem d_Mo_init_77 : decode b_Mo_init 77 = .ok (.putfield 35, 3) := by decide +kernel
theorem d_Mo_init_80 : decode b_Mo_init 80 = .ok (.aload_n 0, 1) := by decide +kernel
theorem d_Mo_init_81 : decode b_Mo_init 81 = .ok (.invokevirtual 38, 3) := by decide +kernel
theorem d_Mo_init_84 : decode b_Mo_init 84 = .ok (.return_, 1) := by decide +kernel
theorem d_Mo_forget_0 : decode b_Mo_forget 0 = .ok (.iconst 0, 1) := by decide +kernel
theorem d_Mo_forget_1 : decode b_Mo_forget 1 = .ok (.istore_n 1, 1) := by decide +kernel
theorem d_Mo_forget_2 : decode b_Mo_forget 2 = .ok (.iload_n 1, 1) := by decide +kernel
theorem d_Mo_forget_3 : decode b_Mo_forget 3 = .ok (.sipush 200, 3) := by decide +kernel
theorem d_Mo_forget_6 : decode b_Mo_forget 6 = .ok (.if_icmp .ge 16, 3) := by decide +kernel
theorem d_Mo_forget_9 : decode b_Mo_forget 9 = .ok (.aload_n 0, 1) := by decide +kernel
theorem d_Mo_forget_10 : decode b_Mo_forget 10 = .ok (.getfield 7, 3) := by decide +kernel
theorem d_Mo_forget_13 : decode b_Mo_forget 13 = .ok (.iload_n 1, 1) := by decide +kernel
theorem d_Mo_forget_14 : decode b_Mo_forget 14 = .ok (.iconst (-1), 1) := by decide +kernel
theorem d_Mo_forget_15 : decode b_Mo_forget 15 = .ok (.iastore, 1) := by decide +kernel
theorem d_Mo_forget_16 : decode b_Mo_forget 16 = .ok (.iinc 1 1, 3) := by decide +kernel
theorem d_Mo_forget_19 : decode b_Mo_forget 19 = .ok (.goto (-17), 3) := by decide +kernel
theorem d_Mo_forget_22 : decode b_Mo_forget 22 = .ok (.iconst 0, 1) := by decide +kernel
theorem d_Mo_forget_23 : decode b_Mo_forget 23 = .ok (.istore_n 1, 1) := by decide +kernel
theorem d_Mo_forget_24 : decode b_Mo_forget 24 = .ok (.iload_n 1, 1) := by decide +kernel
theorem d_Mo_forget_25 : decode b_Mo_forget 25 = .ok (.bipush 20, 2) := by decide +kernel
theorem d_Mo_forget_27 : decode b_Mo_forget 27 = .ok (.if_icmp .ge 16, 3) := by decide +kernel
theorem d_Mo_forget_30 : decode b_Mo_forget 30 = .ok (.aload_n 0, 1) := by decide +kernel
theorem d_Mo_forget_31 : decode b_Mo_forget 31 = .ok (.getfield 13, 3) := by decide +kernel
theorem d_Mo_forget_34 : decode b_Mo_forget 34 = .ok (.iload_n 1, 1) := by decide +kernel
theorem d_Mo_forget_35 : decode b_Mo_forget 35 = .ok (.iconst (-1), 1) := by decide +kernel
theorem d_Mo_forget_36 : decode b_Mo_forget 36 = .ok (.iastore, 1) := by decide +kernel
theorem d_Mo_forget_37 : decode b_Mo_forget 37 = .ok (.iinc 1 1, 3) := by decide +kernel
theorem d_Mo_forget_40 : decode b_Mo_forget 40 = .ok (.goto (-16), 3) := by decide +kernel
theorem d_Mo_forget_43 : decode b_Mo_forget 43 = .ok (.aload_n 0, 1) := by decide +kernel
theorem d_Mo_forget_44 : decode b_Mo_forget 44 = .ok (.iconst 0, 1) := by decide +kernel
theorem d_Mo_forget_45 : decode b_Mo_forget 45 = .ok (.putfield 41, 3) := by decide +kernel
theorem d_Mo_forget_48 : decode b_Mo_forget 48 = .ok (.aload_n 0, 1) := by decide +kernel
theorem d_Mo_forget_49 : decode b_Mo_forget 49 = .ok (.iconst 0, 1) := by decide +kernel
theorem d_Mo_forget_50 : decode b_Mo_forget 50 = .ok (.putfield 44, 3) := by decide +kernel
theorem d_Mo_forget_53 : decode b_Mo_forget 53 = .ok (.aload_n 0, 1) := by decide +kernel
theorem d_Mo_forget_54 : decode b_Mo_forget 54 = .ok (.iconst (-1), 1) := by decide +kernel
theorem d_Mo_forget_55 : decode b_Mo_forget 55 = .ok (.putfield 31, 3) := by decide +kernel
theorem d_Mo_forget_58 : decode b_Mo_forget 58 = .ok (.aload_n 0, 1) := by decide +kernel
theorem d_Mo_forget_59 : decode b_Mo_forget 59 = .ok (.iconst 0, 1) := by decide +kernel
theorem d_Mo_forget_60 : decode b_Mo_forget 60 = .ok (.putfield 47, 3) := by decide +kernel
theorem d_Mo_forget_63 : decode b_Mo_forget 63 = .ok (.aload_n 0, 1) := by decide +kernel
theorem d_Mo_forget_64 : decode b_Mo_forget 64 = .ok (.iconst 0, 1) := by decide +kernel
theorem d_Mo_forget_65 : decode b_Mo_forget 65 = .ok (.putfield 50, 3) := by decide +kernel
theorem d_Mo_forget_68 : decode b_Mo_forget 68 = .ok (.aload_n 0, 1) := by decide +kernel
theorem d_Mo_forget_69 : decode b_Mo_forget 69 = .ok (.iconst 0, 1) := by decide +kernel
theorem d_Mo_forget_70 : decode b_Mo_forget 70 = .ok (.putfield 53, 3) := by decide +kernel
theorem d_Mo_forget_73 : decode b_Mo_forget 73 = .ok (.aload_n 0, 1) := by decide +kernel
theorem d_Mo_forget_74 : decode b_Mo_forget 74 = .ok (.iconst 0, 1) := by decide +kernel
theorem d_Mo_forget_75 : decode b_Mo_forget 75 = .ok (.putfield 56, 3) := by decide +kernel
theorem d_Mo_forget_78 : decode b_Mo_forget 78 = .ok (.return_, 1) := by decide +kernel
theorem d_Mo_arrow_0 : decode b_Mo_arrow 0 = .ok (.aload_n 0, 1) := by decide +kernel
theorem d_Mo_arrow_1 : decode b_Mo_arrow 1 = .ok (.getfield 41, 3) := by decide +kernel
theorem d_Mo_arrow_4 : decode b_Mo_arrow 4 = .ok (.ifCond .gt 34, 3) := by decide +kernel
theorem d_Mo_arrow_7 : decode b_Mo_arrow 7 = .ok (.iload_n 1, 1) := by decide +kernel
theorem d_Mo_arrow_8 : decode b_Mo_arrow 8 = .ok (.ifCond .lt 30, 3) := by decide +kernel
theorem d_Mo_arrow_11 : decode b_Mo_arrow 11 = .ok (.iload_n 1, 1) := by decide +kernel
theorem d_Mo_arrow_12 : decode b_Mo_arrow 12 = .ok (.bipush 20, 2) := by decide +kernel
theorem d_Mo_arrow_14 : decode b_Mo_arrow 14 = .ok (.if_icmp .ge 24, 3) := by decide +kernel
theorem d_Mo_arrow_17 : decode b_Mo_arrow 17 = .ok (.iload_n 2, 1) := by decide +kernel
theorem d_Mo_arrow_18 : decode b_Mo_arrow 18 = .ok (.ifCond .lt 20, 3) := by decide +kernel
theorem d_Mo_arrow_21 : decode b_Mo_arrow 21 = .ok (.iload_n 2, 1) := by decide +kernel
theorem d_Mo_arrow_22 : decode b_Mo_arrow 22 = .ok (.bipush 10, 2) := by decide +kernel
theorem d_Mo_arrow_24 : decode b_Mo_arrow 24 = .ok (.if_icmp .ge 14, 3) := by decide +kernel
theorem d_Mo_arrow_27 : decode b_Mo_arrow 27 = .ok (.iload_n 3, 1) := by decide +kernel
theorem d_Mo_arrow_28 : decode b_Mo_arrow 28 = .ok (.iconst (-1), 1) := by decide +kernel
theorem d_Mo_arrow_29 : decode b_Mo_arrow 29 = .ok (.if_icmp .lt 9, 3) := by decide +kernel
theorem d_Mo_arrow_32 : decode b_Mo_arrow 32 = .ok (.iload_n 3, 1) := by decide +kernel
theorem d_Mo_arrow_33 : decode b_Mo_arrow 33 = .ok (.bipush 20, 2) := by decide +kernel
theorem d_Mo_arrow_35 : decode b_Mo_arrow 35 = .ok (.if_icmp .lt 5, 3) := by decide +kernel
theorem d_Mo_arrow_38 : decode b_Mo_arrow 38 = .ok (.iconst 0, 1) := by decide +kernel
theorem d_Mo_arrow_39 : decode b_Mo_arrow 39 = .ok (.ireturn, 1) := by decide +kernel
theorem d_Mo_arrow_40 : decode b_Mo_arrow 40 = .ok (.aload_n 0, 1) := by decide +kernel
theorem d_Mo_arrow_41 : decode b_Mo_arrow 41 = .ok (.getfield 7, 3) := by decide +kernel
theorem d_Mo_arrow_44 : decode b_Mo_arrow 44 = .ok (.bipush 10, 2) := by decide +kernel
theorem d_Mo_arrow_46 : decode b_Mo_arrow 46 = .ok (.iload_n 1, 1) := by decide +kernel
theorem d_Mo_arrow_47 : decode b_Mo_arrow 47 = .ok (.imul, 1) := by decide +kernel
theorem d_Mo_arrow_48 : decode b_Mo_arrow 48 = .ok (.iload_n 2, 1) := by decide +kernel
theorem d_Mo_arrow_49 : decode b_Mo_arrow 49 = .ok (.iadd, 1) := by decide +kernel
theorem d_Mo_arrow_50 : decode b_Mo_arrow 50 = .ok (.iload_n 3, 1) := by decide +kernel
theorem d_Mo_arrow_51 : decode b_Mo_arrow 51 = .ok (.iastore, 1) := by decide +kernel
theorem d_Mo_arrow_52 : decode b_Mo_arrow 52 = .ok (.iconst 1, 1) := by decide +kernel
theorem d_Mo_arrow_53 : decode b_Mo_arrow 53 = .ok (.ireturn, 1) := by decide +kernel
theorem d_Mo_kind_0 : decode b_Mo_kind 0 = .ok (.aload_n 0, 1) := by decide +kernel
theorem d_Mo_kind_1 : decode b_Mo_kind 1 = .ok (.getfield 41, 3) := by decide +kernel
theorem d_Mo_kind_4 : decode b_Mo_kind 4 = .ok (.ifCond .gt 24, 3) := by decide +kernel
theorem d_Mo_kind_7 : decode b_Mo_kind 7 = .ok (.iload_n 1, 1) := by decide +kernel
theorem d_Mo_kind_8 : decode b_Mo_kind 8 = .ok (.ifCond .lt 20, 3) := by decide +kernel
theorem d_Mo_kind_11 : decode b_Mo_kind 11 = .ok (.iload_n 1, 1) := by decide +kernel
theorem d_Mo_kind_12 : decode b_Mo_kind 12 = .ok (.bipush 20, 2) := by decide +kernel
theorem d_Mo_kind_14 : decode b_Mo_kind 14 = .ok (.if_icmp .ge 14, 3) := by decide +kernel
theorem d_Mo_kind_17 : decode b_Mo_kind 17 = .ok (.iload_n 2, 1) := by decide +kernel
theorem d_Mo_kind_18 : decode b_Mo_kind 18 = .ok (.iconst (-1), 1) := by decide +kernel
theorem d_Mo_kind_19 : decode b_Mo_kind 19 = .ok (.if_icmp .lt 9, 3) := by decide +kernel
theorem d_Mo_kind_22 : decode b_Mo_kind 22 = .ok (.iload_n 2, 1) := by decide +kernel
theorem d_Mo_kind_23 : decode b_Mo_kind 23 = .ok (.bipush 99, 2) := by decide +kernel
theorem d_Mo_kind_25 : decode b_Mo_kind 25 = .ok (.if_icmp .le 5, 3) := by decide +kernel
theorem d_Mo_kind_28 : decode b_Mo_kind 28 = .ok (.iconst 0, 1) := by decide +kernel
theorem d_Mo_kind_29 : decode b_Mo_kind 29 = .ok (.ireturn, 1) := by decide +kernel
theorem d_Mo_kind_30 : decode b_Mo_kind 30 = .ok (.aload_n 0, 1) := by decide +kernel
theorem d_Mo_kind_31 : decode b_Mo_kind 31 = .ok (.getfield 13, 3) := by decide +kernel
theorem d_Mo_kind_34 : decode b_Mo_kind 34 = .ok (.iload_n 1, 1) := by decide +kernel
theorem d_Mo_kind_35 : decode b_Mo_kind 35 = .ok (.iload_n 2, 1) := by decide +kernel
theorem d_Mo_kind_36 : decode b_Mo_kind 36 = .ok (.iastore, 1) := by decide +kernel
theorem d_Mo_kind_37 : decode b_Mo_kind 37 = .ok (.iconst 1, 1) := by decide +kernel
theorem d_Mo_kind_38 : decode b_Mo_kind 38 = .ok (.ireturn, 1) := by decide +kernel
theorem d_Mo_scan_0 : decode b_Mo_scan 0 = .ok (.aload_n 0, 1) := by decide +kernel
theorem d_Mo_scan_1 : decode b_Mo_scan 1 = .ok (.iconst 0, 1) := by decide +kernel
theorem d_Mo_scan_2 : decode b_Mo_scan 2 = .ok (.putfield 59, 3) := by decide +kernel
theorem d_Mo_scan_5 : decode b_Mo_scan 5 = .ok (.aload_n 0, 1) := by decide +kernel
theorem d_Mo_scan_6 : decode b_Mo_scan 6 = .ok (.iconst (-1), 1) := by decide +kernel
theorem d_Mo_scan_7 : decode b_Mo_scan 7 = .ok (.putfield 62, 3) := by decide +kernel
theorem d_Mo_scan_10 : decode b_Mo_scan 10 = .ok (.aload_n 0, 1) := by decide +kernel
theorem d_Mo_scan_11 : decode b_Mo_scan 11 = .ok (.iconst 0, 1) := by decide +kernel
theorem d_Mo_scan_12 : decode b_Mo_scan 12 = .ok (.putfield 65, 3) := by decide +kernel
theorem d_Mo_scan_15 : decode b_Mo_scan 15 = .ok (.iconst 0, 1) := by decide +kernel
theorem d_Mo_scan_16 : decode b_Mo_scan 16 = .ok (.istore_n 2, 1) := by decide +kernel
theorem d_Mo_scan_17 : decode b_Mo_scan 17 = .ok (.iload_n 1, 1) := by decide +kernel
theorem d_Mo_scan_18 : decode b_Mo_scan 18 = .ok (.istore_n 3, 1) := by decide +kernel
theorem d_Mo_scan_19 : decode b_Mo_scan 19 = .ok (.iload_n 2, 1) := by decide +kernel
theorem d_Mo_scan_20 : decode b_Mo_scan 20 = .ok (.ifCond .lt 78, 3) := by decide +kernel
theorem d_Mo_scan_23 : decode b_Mo_scan 23 = .ok (.aload_n 0, 1) := by decide +kernel
theorem d_Mo_scan_24 : decode b_Mo_scan 24 = .ok (.dup, 1) := by decide +kernel
theorem d_Mo_scan_25 : decode b_Mo_scan 25 = .ok (.getfield 65, 3) := by decide +kernel
theorem d_Mo_scan_28 : decode b_Mo_scan 28 = .ok (.iconst 1, 1) := by decide +kernel
theorem d_Mo_scan_29 : decode b_Mo_scan 29 = .ok (.iadd, 1) := by decide +kernel
theorem d_Mo_scan_30 : decode b_Mo_scan 30 = .ok (.putfield 65, 3) := by decide +kernel
theorem d_Mo_scan_33 : decode b_Mo_scan 33 = .ok (.iload_n 3, 1) := by decide +kernel
theorem d_Mo_scan_34 : decode b_Mo_scan 34 = .ok (.aload_n 0, 1) := by decide +kernel
theorem d_Mo_scan_35 : decode b_Mo_scan 35 = .ok (.getfield 41, 3) := by decide +kernel
theorem d_Mo_scan_38 : decode b_Mo_scan 38 = .ok (.if_icmp .ge 22, 3) := by decide +kernel
theorem d_Mo_scan_41 : decode b_Mo_scan 41 = .ok (.aload_n 0, 1) := by decide +kernel
theorem d_Mo_scan_42 : decode b_Mo_scan 42 = .ok (.getfield 7, 3) := by decide +kernel
theorem d_Mo_scan_45 : decode b_Mo_scan 45 = .ok (.bipush 10, 2) := by decide +kernel
theorem d_Mo_scan_47 : decode b_Mo_scan 47 = .ok (.iload_n 2, 1) := by decide +kernel
theorem d_Mo_scan_48 : decode b_Mo_scan 48 = .ok (.imul, 1) := by decide +kernel
theorem d_Mo_scan_49 : decode b_Mo_scan 49 = .ok (.aload_n 0, 1) := by decide +kernel
theorem d_Mo_scan_50 : decode b_Mo_scan 50 = .ok (.getfield 16, 3) := by decide +kernel
theorem d_Mo_scan_53 : decode b_Mo_scan 53 = .ok (.iload_n 3, 1) := by decide +kernel
theorem d_Mo_scan_54 : decode b_Mo_scan 54 = .ok (.iaload, 1) := by decide +kernel
theorem d_Mo_scan_55 : decode b_Mo_scan 55 = .ok (.iadd, 1) := by decide +kernel
theorem d_Mo_scan_56 : decode b_Mo_scan 56 = .ok (.iaload, 1) := by decide +kernel
theorem d_Mo_scan_57 : decode b_Mo_scan 57 = .ok (.goto 4, 3) := by decide +kernel
theorem d_Mo_scan_60 : decode b_Mo_scan 60 = .ok (.iconst (-1), 1) := by decide +kernel
theorem d_Mo_scan_61 : decode b_Mo_scan 61 = .ok (.istore_n 2, 1) := by decide +kernel
theorem d_Mo_scan_62 : decode b_Mo_scan 62 = .ok (.iinc 3 1, 3) := by decide +kernel
theorem d_Mo_scan_65 : decode b_Mo_scan 65 = .ok (.iload_n 2, 1) := by decide +kernel
theorem d_Mo_scan_66 : decode b_Mo_scan 66 = .ok (.ifCond .lt (-47), 3) := by decide +kernel
theorem d_Mo_scan_69 : decode b_Mo_scan 69 = .ok (.aload_n 0, 1) := by decide +kernel
theorem d_Mo_scan_70 : decode b_Mo_scan 70 = .ok (.getfield 13, 3) := by decide +kernel
theorem d_Mo_scan_73 : decode b_Mo_scan 73 = .ok (.iload_n 2, 1) := by decide +kernel
theorem d_Mo_scan_74 : decode b_Mo_scan 74 = .ok (.iaload, 1) := by decide +kernel
theorem d_Mo_scan_75 : decode b_Mo_scan 75 = .ok (.ifCond .lt (-56), 3) := by decide +kernel
theorem d_Mo_scan_78 : decode b_Mo_scan 78 = .ok (.aload_n 0, 1) := by decide +kernel
theorem d_Mo_scan_79 : decode b_Mo_scan 79 = .ok (.iload_n 3, 1) := by decide +kernel
theorem d_Mo_scan_80 : decode b_Mo_scan 80 = .ok (.iload_n 1, 1) := by decide +kernel
theorem d_Mo_scan_81 : decode b_Mo_scan 81 = .ok (.isub, 1) := by decide +kernel
theorem d_Mo_scan_82 : decode b_Mo_scan 82 = .ok (.putfield 59, 3) := by decide +kernel
theorem d_Mo_scan_85 : decode b_Mo_scan 85 = .ok (.aload_n 0, 1) := by decide +kernel
theorem d_Mo_scan_86 : decode b_Mo_scan 86 = .ok (.aload_n 0, 1) := by decide +kernel
theorem d_Mo_scan_87 : decode b_Mo_scan 87 = .ok (.getfield 13, 3) := by decide +kernel
theorem d_Mo_scan_90 : decode b_Mo_scan 90 = .ok (.iload_n 2, 1) := by decide +kernel
theorem d_Mo_scan_91 : decode b_Mo_scan 91 = .ok (.iaload, 1) := by decide +kernel
theorem d_Mo_scan_92 : decode b_Mo_scan 92 = .ok (.putfield 62, 3) := by decide +kernel
theorem d_Mo_scan_95 : decode b_Mo_scan 95 = .ok (.goto (-76), 3) := by decide +kernel
theorem d_Mo_scan_98 : decode b_Mo_scan 98 = .ok (.aload_n 0, 1) := by decide +kernel
theorem d_Mo_scan_99 : decode b_Mo_scan 99 = .ok (.getfield 59, 3) := by decide +kernel
theorem d_Mo_scan_102 : decode b_Mo_scan 102 = .ok (.ifCond .le 7, 3) := by decide +kernel
theorem d_Mo_scan_105 : decode b_Mo_scan 105 = .ok (.iconst 1, 1) := by decide +kernel
theorem d_Mo_scan_106 : decode b_Mo_scan 106 = .ok (.goto 4, 3) := by decide +kernel
theorem d_Mo_scan_109 : decode b_Mo_scan 109 = .ok (.iconst 0, 1) := by decide +kernel
theorem d_Mo_scan_110 : decode b_Mo_scan 110 = .ok (.ireturn, 1) := by decide +kernel
theorem d_Mo_scanAll_0 : decode b_Mo_scanAll 0 = .ok (.aload_n 0, 1) := by decide +kernel
theorem d_Mo_scanAll_1 : decode b_Mo_scanAll 1 = .ok (.iconst 0, 1) := by decide +kernel
theorem d_Mo_scanAll_2 : decode b_Mo_scanAll 2 = .ok (.putfield 44, 3) := by decide +kernel
theorem d_Mo_scanAll_5 : decode b_Mo_scanAll 5 = .ok (.aload_n 0, 1) := by decide +kernel
theorem d_Mo_scanAll_6 : decode b_Mo_scanAll 6 = .ok (.iconst (-1), 1) := by decide +kernel
theorem d_Mo_scanAll_7 : decode b_Mo_scanAll 7 = .ok (.putfield 31, 3) := by decide +kernel
theorem d_Mo_scanAll_10 : decode b_Mo_scanAll 10 = .ok (.aload_n 0, 1) := by decide +kernel
theorem d_Mo_scanAll_11 : decode b_Mo_scanAll 11 = .ok (.iconst 0, 1) := by decide +kernel
theorem d_Mo_scanAll_12 : decode b_Mo_scanAll 12 = .ok (.putfield 47, 3) := by decide +kernel
theorem d_Mo_scanAll_15 : decode b_Mo_scanAll 15 = .ok (.iconst 0, 1) := by decide +kernel
theorem d_Mo_scanAll_16 : decode b_Mo_scanAll 16 = .ok (.istore_n 1, 1) := by decide +kernel
theorem d_Mo_scanAll_17 : decode b_Mo_scanAll 17 = .ok (.iload_n 1, 1) := by decide +kernel
theorem d_Mo_scanAll_18 : decode b_Mo_scanAll 18 = .ok (.aload_n 0, 1) := by decide +kernel
theorem d_Mo_scanAll_19 : decode b_Mo_scanAll 19 = .ok (.getfield 41, 3) := by decide +kernel
theorem d_Mo_scanAll_22 : decode b_Mo_scanAll 22 = .ok (.if_icmp .ge 103, 3) := by decide +kernel
theorem d_Mo_scanAll_25 : decode b_Mo_scanAll 25 = .ok (.aload_n 0, 1) := by decide +kernel
theorem d_Mo_scanAll_26 : decode b_Mo_scanAll 26 = .ok (.getfield 31, 3) := by decide +kernel
theorem d_Mo_scanAll_29 : decode b_Mo_scanAll 29 = .ok (.ifCond .ge 96, 3) := by decide +kernel
theorem d_Mo_scanAll_32 : decode b_Mo_scanAll 32 = .ok (.aload_n 0, 1) := by decide +kernel
theorem d_Mo_scanAll_33 : decode b_Mo_scanAll 33 = .ok (.iload_n 1, 1) := by decide +kernel
theorem d_Mo_scanAll_34 : decode b_Mo_scanAll 34 = .ok (.invokevirtual 68, 3) := by decide +kernel
theorem d_Mo_scanAll_37 : decode b_Mo_scanAll 37 = .ok (.ifCond .eq 72, 3) := by decide +kernel
theorem d_Mo_scanAll_40 : decode b_Mo_scanAll 40 = .ok (.aload_n 0, 1) := by decide +kernel
theorem d_Mo_scanAll_41 : decode b_Mo_scanAll 41 = .ok (.getfield 19, 3) := by decide +kernel
theorem d_Mo_scanAll_44 : decode b_Mo_scanAll 44 = .ok (.aload_n 0, 1) := by decide +kernel
theorem d_Mo_scanAll_45 : decode b_Mo_scanAll 45 = .ok (.getfield 44, 3) := by decide +kernel
theorem d_Mo_scanAll_48 : decode b_Mo_scanAll 48 = .ok (.iload_n 1, 1) := by decide +kernel
theorem d_Mo_scanAll_49 : decode b_Mo_scanAll 49 = .ok (.iastore, 1) := by decide +kernel
theorem d_Mo_scanAll_50 : decode b_Mo_scanAll 50 = .ok (.aload_n 0, 1) := by decide +kernel
theorem d_Mo_scanAll_51 : decode b_Mo_scanAll 51 = .ok (.getfield 22, 3) := by decide +kernel
theorem d_Mo_scanAll_54 : decode b_Mo_scanAll 54 = .ok (.aload_n 0, 1) := by decide +kernel
theorem d_Mo_scanAll_55 : decode b_Mo_scanAll 55 = .ok (.getfield 44, 3) := by decide +kernel
theorem d_Mo_scanAll_58 : decode b_Mo_scanAll 58 = .ok (.aload_n 0, 1) := by decide +kernel
theorem d_Mo_scanAll_59 : decode b_Mo_scanAll 59 = .ok (.getfield 59, 3) := by decide +kernel
theorem d_Mo_scanAll_62 : decode b_Mo_scanAll 62 = .ok (.iastore, 1) := by decide +kernel
theorem d_Mo_scanAll_63 : decode b_Mo_scanAll 63 = .ok (.aload_n 0, 1) := by decide +kernel
theorem d_Mo_scanAll_64 : decode b_Mo_scanAll 64 = .ok (.getfield 25, 3) := by decide +kernel
theorem d_Mo_scanAll_67 : decode b_Mo_scanAll 67 = .ok (.aload_n 0, 1) := by decide +kernel
theorem d_Mo_scanAll_68 : decode b_Mo_scanAll 68 = .ok (.getfield 44, 3) := by decide +kernel
theorem d_Mo_scanAll_71 : decode b_Mo_scanAll 71 = .ok (.aload_n 0, 1) := by decide +kernel
theorem d_Mo_scanAll_72 : decode b_Mo_scanAll 72 = .ok (.getfield 62, 3) := by decide +kernel
theorem d_Mo_scanAll_75 : decode b_Mo_scanAll 75 = .ok (.iastore, 1) := by decide +kernel
theorem d_Mo_scanAll_76 : decode b_Mo_scanAll 76 = .ok (.aload_n 0, 1) := by decide +kernel
theorem d_Mo_scanAll_77 : decode b_Mo_scanAll 77 = .ok (.getfield 28, 3) := by decide +kernel
theorem d_Mo_scanAll_80 : decode b_Mo_scanAll 80 = .ok (.aload_n 0, 1) := by decide +kernel
theorem d_Mo_scanAll_81 : decode b_Mo_scanAll 81 = .ok (.getfield 44, 3) := by decide +kernel
theorem d_Mo_scanAll_84 : decode b_Mo_scanAll 84 = .ok (.aload_n 0, 1) := by decide +kernel
theorem d_Mo_scanAll_85 : decode b_Mo_scanAll 85 = .ok (.getfield 65, 3) := by decide +kernel
theorem d_Mo_scanAll_88 : decode b_Mo_scanAll 88 = .ok (.iastore, 1) := by decide +kernel
theorem d_Mo_scanAll_89 : decode b_Mo_scanAll 89 = .ok (.aload_n 0, 1) := by decide +kernel
theorem d_Mo_scanAll_90 : decode b_Mo_scanAll 90 = .ok (.dup, 1) := by decide +kernel
theorem d_Mo_scanAll_91 : decode b_Mo_scanAll 91 = .ok (.getfield 44, 3) := by decide +kernel
theorem d_Mo_scanAll_94 : decode b_Mo_scanAll 94 = .ok (.iconst 1, 1) := by decide +kernel
theorem d_Mo_scanAll_95 : decode b_Mo_scanAll 95 = .ok (.iadd, 1) := by decide +kernel
theorem d_Mo_scanAll_96 : decode b_Mo_scanAll 96 = .ok (.putfield 44, 3) := by decide +kernel
theorem d_Mo_scanAll_99 : decode b_Mo_scanAll 99 = .ok (.iload_n 1, 1) := by decide +kernel
theorem d_Mo_scanAll_100 : decode b_Mo_scanAll 100 = .ok (.aload_n 0, 1) := by decide +kernel
theorem d_Mo_scanAll_101 : decode b_Mo_scanAll 101 = .ok (.getfield 59, 3) := by decide +kernel
theorem d_Mo_scanAll_104 : decode b_Mo_scanAll 104 = .ok (.iadd, 1) := by decide +kernel
theorem d_Mo_scanAll_105 : decode b_Mo_scanAll 105 = .ok (.istore_n 1, 1) := by decide +kernel
theorem d_Mo_scanAll_106 : decode b_Mo_scanAll 106 = .ok (.goto (-89), 3) := by decide +kernel
theorem d_Mo_scanAll_109 : decode b_Mo_scanAll 109 = .ok (.aload_n 0, 1) := by decide +kernel
theorem d_Mo_scanAll_110 : decode b_Mo_scanAll 110 = .ok (.iload_n 1, 1) := by decide +kernel
theorem d_Mo_scanAll_111 : decode b_Mo_scanAll 111 = .ok (.putfield 31, 3) := by decide +kernel
theorem d_Mo_scanAll_114 : decode b_Mo_scanAll 114 = .ok (.aload_n 0, 1) := by decide +kernel
theorem d_Mo_scanAll_115 : decode b_Mo_scanAll 115 = .ok (.aload_n 0, 1) := by decide +kernel
theorem d_Mo_scanAll_116 : decode b_Mo_scanAll 116 = .ok (.getfield 65, 3) := by decide +kernel
theorem d_Mo_scanAll_119 : decode b_Mo_scanAll 119 = .ok (.putfield 47, 3) := by decide +kernel
theorem d_Mo_scanAll_122 : decode b_Mo_scanAll 122 = .ok (.goto (-105), 3) := by decide +kernel
theorem d_Mo_scanAll_125 : decode b_Mo_scanAll 125 = .ok (.return_, 1) := by decide +kernel
theorem d_Mo_began_0 : decode b_Mo_began 0 = .ok (.iload_n 1, 1) := by decide +kernel
theorem d_Mo_began_1 : decode b_Mo_began 1 = .ok (.aload_n 0, 1) := by decide +kernel
theorem d_Mo_began_2 : decode b_Mo_began 2 = .ok (.getfield 72, 3) := by decide +kernel
theorem d_Mo_began_5 : decode b_Mo_began 5 = .ok (.if_icmp .eq 11, 3) := by decide +kernel
theorem d_Mo_began_8 : decode b_Mo_began 8 = .ok (.iload_n 1, 1) := by decide +kernel
theorem d_Mo_began_9 : decode b_Mo_began 9 = .ok (.aload_n 0, 1) := by decide +kernel
theorem d_Mo_began_10 : decode b_Mo_began 10 = .ok (.getfield 75, 3) := by decide +kernel
theorem d_Mo_began_13 : decode b_Mo_began 13 = .ok (.if_icmp .ne 7, 3) := by decide +kernel
theorem d_Mo_began_16 : decode b_Mo_began 16 = .ok (.iconst 1, 1) := by decide +kernel
theorem d_Mo_began_17 : decode b_Mo_began 17 = .ok (.goto 4, 3) := by decide +kernel
theorem d_Mo_began_20 : decode b_Mo_began 20 = .ok (.iconst 0, 1) := by decide +kernel
theorem d_Mo_began_21 : decode b_Mo_began 21 = .ok (.istore_n 2, 1) := by decide +kernel
theorem d_Mo_began_22 : decode b_Mo_began 22 = .ok (.iconst 0, 1) := by decide +kernel
theorem d_Mo_began_23 : decode b_Mo_began 23 = .ok (.istore_n 3, 1) := by decide +kernel
theorem d_Mo_began_24 : decode b_Mo_began 24 = .ok (.iload_n 3, 1) := by decide +kernel
theorem d_Mo_began_25 : decode b_Mo_began 25 = .ok (.aload_n 0, 1) := by decide +kernel
theorem d_Mo_began_26 : decode b_Mo_began 26 = .ok (.getfield 78, 3) := by decide +kernel
theorem d_Mo_began_29 : decode b_Mo_began 29 = .ok (.if_icmp .ge 29, 3) := by decide +kernel
theorem d_Mo_began_32 : decode b_Mo_began 32 = .ok (.iload_n 2, 1) := by decide +kernel
theorem d_Mo_began_33 : decode b_Mo_began 33 = .ok (.ifCond .ne 13, 3) := by decide +kernel
theorem d_Mo_began_36 : decode b_Mo_began 36 = .ok (.aload_n 0, 1) := by decide +kernel
theorem d_Mo_began_37 : decode b_Mo_began 37 = .ok (.getfield 35, 3) := by decide +kernel
theorem d_Mo_began_40 : decode b_Mo_began 40 = .ok (.iload_n 3, 1) := by decide +kernel
theorem d_Mo_began_41 : decode b_Mo_began 41 = .ok (.iaload, 1) := by decide +kernel
theorem d_Mo_began_42 : decode b_Mo_began 42 = .ok (.iload_n 1, 1) := by decide +kernel
theorem d_Mo_began_43 : decode b_Mo_began 43 = .ok (.if_icmp .ne 7, 3) := by decide +kernel
theorem d_Mo_began_46 : decode b_Mo_began 46 = .ok (.iconst 1, 1) := by decide +kernel
theorem d_Mo_began_47 : decode b_Mo_began 47 = .ok (.goto 4, 3) := by decide +kernel
theorem d_Mo_began_50 : decode b_Mo_began 50 = .ok (.iconst 0, 1) := by decide +kernel
theorem d_Mo_began_51 : decode b_Mo_began 51 = .ok (.istore_n 2, 1) := by decide +kernel
theorem d_Mo_began_52 : decode b_Mo_began 52 = .ok (.iinc 3 1, 3) := by decide +kernel
theorem d_Mo_began_55 : decode b_Mo_began 55 = .ok (.goto (-31), 3) := by decide +kernel
theorem d_Mo_began_58 : decode b_Mo_began 58 = .ok (.iload_n 2, 1) := by decide +kernel
theorem d_Mo_began_59 : decode b_Mo_began 59 = .ok (.ireturn, 1) := by decide +kernel
theorem d_Mo_edit_0 : decode b_Mo_edit 0 = .ok (.iload 5, 2) := by decide +kernel
theorem d_Mo_edit_2 : decode b_Mo_edit 2 = .ok (.ifCond .lt 55, 3) := by decide +kernel
theorem d_Mo_edit_5 : decode b_Mo_edit 5 = .ok (.iload 5, 2) := by decide +kernel
theorem d_Mo_edit_7 : decode b_Mo_edit 7 = .ok (.bipush 16, 2) := by decide +kernel
theorem d_Mo_edit_9 : decode b_Mo_edit 9 = .ok (.if_icmp .gt 48, 3) := by decide +kernel
theorem d_Mo_edit_12 : decode b_Mo_edit 12 = .ok (.iload_n 1, 1) := by decide +kernel
theorem d_Mo_edit_13 : decode b_Mo_edit 13 = .ok (.ifCond .lt 44, 3) := by decide +kernel
theorem d_Mo_edit_16 : decode b_Mo_edit 16 = .ok (.iload_n 2, 1) := by decide +kernel
theorem d_Mo_edit_17 : decode b_Mo_edit 17 = .ok (.ifCond .lt 40, 3) := by decide +kernel
theorem d_Mo_edit_20 : decode b_Mo_edit 20 = .ok (.iload_n 1, 1) := by decide +kernel
theorem d_Mo_edit_21 : decode b_Mo_edit 21 = .ok (.aload_n 0, 1) := by decide +kernel
theorem d_Mo_edit_22 : decode b_Mo_edit 22 = .ok (.getfield 41, 3) := by decide +kernel
theorem d_Mo_edit_25 : decode b_Mo_edit 25 = .ok (.if_icmp .gt 32, 3) := by decide +kernel
theorem d_Mo_edit_28 : decode b_Mo_edit 28 = .ok (.iload_n 2, 1) := by decide +kernel
theorem d_Mo_edit_29 : decode b_Mo_edit 29 = .ok (.aload_n 0, 1) := by decide +kernel
theorem d_Mo_edit_30 : decode b_Mo_edit 30 = .ok (.getfield 41, 3) := by decide +kernel
theorem d_Mo_edit_33 : decode b_Mo_edit 33 = .ok (.iload_n 1, 1) := by decide +kernel
theorem d_Mo_edit_34 : decode b_Mo_edit 34 = .ok (.isub, 1) := by decide +kernel
theorem d_Mo_edit_35 : decode b_Mo_edit 35 = .ok (.if_icmp .gt 22, 3) := by decide +kernel
theorem d_Mo_edit_38 : decode b_Mo_edit 38 = .ok (.aload_n 0, 1) := by decide +kernel
theorem d_Mo_edit_39 : decode b_Mo_edit 39 = .ok (.getfield 41, 3) := by decide +kernel
theorem d_Mo_edit_42 : decode b_Mo_edit 42 = .ok (.iload_n 2, 1) := by decide +kernel
theorem d_Mo_edit_43 : decode b_Mo_edit 43 = .ok (.isub, 1) := by decide +kernel
theorem d_Mo_edit_44 : decode b_Mo_edit 44 = .ok (.iload 5, 2) := by decide +kernel
theorem d_Mo_edit_46 : decode b_Mo_edit 46 = .ok (.iadd, 1) := by decide +kernel
theorem d_Mo_edit_47 : decode b_Mo_edit 47 = .ok (.sipush 400, 3) := by decide +kernel
theorem d_Mo_edit_50 : decode b_Mo_edit 50 = .ok (.if_icmp .gt 7, 3) := by decide +kernel
theorem d_Mo_edit_53 : decode b_Mo_edit 53 = .ok (.iconst 1, 1) := by decide +kernel
theorem d_Mo_edit_54 : decode b_Mo_edit 54 = .ok (.goto 4, 3) := by decide +kernel
theorem d_Mo_edit_57 : decode b_Mo_edit 57 = .ok (.iconst 0, 1) := by decide +kernel
theorem d_Mo_edit_58 : decode b_Mo_edit 58 = .ok (.istore 6, 2) := by decide +kernel
theorem d_Mo_edit_60 : decode b_Mo_edit 60 = .ok (.iconst 0, 1) := by decide +kernel
theorem d_Mo_edit_61 : decode b_Mo_edit 61 = .ok (.istore 7, 2) := by decide +kernel
theorem d_Mo_edit_63 : decode b_Mo_edit 63 = .ok (.iload 7, 2) := by decide +kernel
theorem d_Mo_edit_65 : decode b_Mo_edit 65 = .ok (.iload 5, 2) := by decide +kernel
theorem d_Mo_edit_67 : decode b_Mo_edit 67 = .ok (.if_icmp .ge 38, 3) := by decide +kernel
theorem d_Mo_edit_70 : decode b_Mo_edit 70 = .ok (.iload 6, 2) := by decide +kernel
theorem d_Mo_edit_72 : decode b_Mo_edit 72 = .ok (.ifCond .eq 33, 3) := by decide +kernel
theorem d_Mo_edit_75 : decode b_Mo_edit 75 = .ok (.lload_n 3, 1) := by decide +kernel
theorem d_Mo_edit_76 : decode b_Mo_edit 76 = .ok (.iconst 4, 1) := by decide +kernel
theorem d_Mo_edit_77 : decode b_Mo_edit 77 = .ok (.iload 7, 2) := by decide +kernel
theorem d_Mo_edit_79 : decode b_Mo_edit 79 = .ok (.imul, 1) := by decide +kernel
theorem d_Mo_edit_80 : decode b_Mo_edit 80 = .ok (.lshr, 1) := by decide +kernel
theorem d_Mo_edit_81 : decode b_Mo_edit 81 = .ok (.ldc2_w 81, 3) := by decide +kernel
theorem d_Mo_edit_84 : decode b_Mo_edit 84 = .ok (.land, 1) := by decide +kernel
theorem d_Mo_edit_85 : decode b_Mo_edit 85 = .ok (.ldc2_w 83, 3) := by decide +kernel
theorem d_Mo_edit_88 : decode b_Mo_edit 88 = .ok (.lcmp, 1) := by decide +kernel
theorem d_Mo_edit_89 : decode b_Mo_edit 89 = .ok (.ifCond .ge 7, 3) := by decide +kernel
theorem d_Mo_edit_92 : decode b_Mo_edit 92 = .ok (.iconst 1, 1) := by decide +kernel
theorem d_Mo_edit_93 : decode b_Mo_edit 93 = .ok (.goto 4, 3) := by decide +kernel
theorem d_Mo_edit_96 : decode b_Mo_edit 96 = .ok (.iconst 0, 1) := by decide +kernel
theorem d_Mo_edit_97 : decode b_Mo_edit 97 = .ok (.istore 6, 2) := by decide +kernel
theorem d_Mo_edit_99 : decode b_Mo_edit 99 = .ok (.iinc 7 1, 3) := by decide +kernel
theorem d_Mo_edit_102 : decode b_Mo_edit 102 = .ok (.goto (-39), 3) := by decide +kernel
theorem d_Mo_edit_105 : decode b_Mo_edit 105 = .ok (.iload 6, 2) := by decide +kernel
theorem d_Mo_edit_107 : decode b_Mo_edit 107 = .ok (.ifCond .ne 5, 3) := by decide +kernel
theorem d_Mo_edit_110 : decode b_Mo_edit 110 = .ok (.iconst (-1), 1) := by decide +kernel
theorem d_Mo_edit_111 : decode b_Mo_edit 111 = .ok (.ireturn, 1) := by decide +kernel
theorem d_Mo_edit_112 : decode b_Mo_edit 112 = .ok (.aload_n 0, 1) := by decide +kernel
theorem d_Mo_edit_113 : decode b_Mo_edit 113 = .ok (.getfield 41, 3) := by decide +kernel
theorem d_Mo_edit_116 : decode b_Mo_edit 116 = .ok (.ifCond .ne 7, 3) := by decide +kernel
theorem d_Mo_edit_119 : decode b_Mo_edit 119 = .ok (.iconst 0, 1) := by decide +kernel
theorem d_Mo_edit_120 : decode b_Mo_edit 120 = .ok (.goto 4, 3) := by decide +kernel
theorem d_Mo_edit_123 : decode b_Mo_edit 123 = .ok (.iconst (-1), 1) := by decide +kernel
theorem d_Mo_edit_124 : decode b_Mo_edit 124 = .ok (.istore 7, 2) := by decide +kernel
theorem d_Mo_edit_126 : decode b_Mo_edit 126 = .ok (.aload_n 0, 1) := by decide +kernel
theorem d_Mo_edit_127 : decode b_Mo_edit 127 = .ok (.getfield 31, 3) := by decide +kernel
theorem d_Mo_edit_130 : decode b_Mo_edit 130 = .ok (.ifCond .lt 22, 3) := by decide +kernel
theorem d_Mo_edit_133 : decode b_Mo_edit 133 = .ok (.aload_n 0, 1) := by decide +kernel
theorem d_Mo_edit_134 : decode b_Mo_edit 134 = .ok (.getfield 31, 3) := by decide +kernel
theorem d_Mo_edit_137 : decode b_Mo_edit 137 = .ok (.aload_n 0, 1) := by decide +kernel
theorem d_Mo_edit_138 : decode b_Mo_edit 138 = .ok (.getfield 47, 3) := by decide +kernel
theorem d_Mo_edit_141 : decode b_Mo_edit 141 = .ok (.iadd, 1) := by decide +kernel
theorem d_Mo_edit_142 : decode b_Mo_edit 142 = .ok (.iload_n 1, 1) := by decide +kernel
theorem d_Mo_edit_143 : decode b_Mo_edit 143 = .ok (.if_icmp .le 9, 3) := by decide +kernel
theorem d_Mo_edit_146 : decode b_Mo_edit 146 = .ok (.aload_n 0, 1) := by decide +kernel
theorem d_Mo_edit_147 : decode b_Mo_edit 147 = .ok (.getfield 31, 3) := by decide +kernel
theorem d_Mo_edit_150 : decode b_Mo_edit 150 = .ok (.istore 7, 2) := by decide +kernel
theorem d_Mo_edit_152 : decode b_Mo_edit 152 = .ok (.aload_n 0, 1) := by decide +kernel
theorem d_Mo_edit_153 : decode b_Mo_edit 153 = .ok (.getfield 44, 3) := by decide +kernel
theorem d_Mo_edit_156 : decode b_Mo_edit 156 = .ok (.iconst 1, 1) := by decide +kernel
theorem d_Mo_edit_157 : decode b_Mo_edit 157 = .ok (.isub, 1) := by decide +kernel
theorem d_Mo_edit_158 : decode b_Mo_edit 158 = .ok (.istore 8, 2) := by decide +kernel
theorem d_Mo_edit_160 : decode b_Mo_edit 160 = .ok (.iload 8, 2) := by decide +kernel
theorem d_Mo_edit_162 : decode b_Mo_edit 162 = .ok (.ifCond .lt 42, 3) := by decide +kernel
theorem d_Mo_edit_165 : decode b_Mo_edit 165 = .ok (.aload_n 0, 1) := by decide +kernel
theorem d_Mo_edit_166 : decode b_Mo_edit 166 = .ok (.getfield 19, 3) := by decide +kernel
theorem d_Mo_edit_169 : decode b_Mo_edit 169 = .ok (.iload 8, 2) := by decide +kernel
theorem d_Mo_edit_171 : decode b_Mo_edit 171 = .ok (.iaload, 1) := by decide +kernel
theorem d_Mo_edit_172 : decode b_Mo_edit 172 = .ok (.aload_n 0, 1) := by decide +kernel
theorem d_Mo_edit_173 : decode b_Mo_edit 173 = .ok (.getfield 28, 3) := by decide +kernel
theorem d_Mo_edit_176 : decode b_Mo_edit 176 = .ok (.iload 8, 2) := by decide +kernel
theorem d_Mo_edit_178 : decode b_Mo_edit 178 = .ok (.iaload, 1) := by decide +kernel
theorem d_Mo_edit_179 : decode b_Mo_edit 179 = .ok (.iadd, 1) := by decide +kernel
theorem d_Mo_edit_180 : decode b_Mo_edit 180 = .ok (.iload_n 1, 1) := by decide +kernel
theorem d_Mo_edit_181 : decode b_Mo_edit 181 = .ok (.if_icmp .le 13, 3) := by decide +kernel
theorem d_Mo_edit_184 : decode b_Mo_edit 184 = .ok (.aload_n 0, 1) := by decide +kernel
theorem d_Mo_edit_185 : decode b_Mo_edit 185 = .ok (.getfield 19, 3) := by decide +kernel
theorem d_Mo_edit_188 : decode b_Mo_edit 188 = .ok (.iload 8, 2) := by decide +kernel
theorem d_Mo_edit_190 : decode b_Mo_edit 190 = .ok (.iaload, 1) := by decide +kernel
theorem d_Mo_edit_191 : decode b_Mo_edit 191 = .ok (.goto 5, 3) := by decide +kernel
theorem d_Mo_edit_194 : decode b_Mo_edit 194 = .ok (.iload 7, 2) := by decide +kernel
theorem d_Mo_edit_196 : decode b_Mo_edit 196 = .ok (.istore 7, 2) := by decide +kernel
theorem d_Mo_edit_198 : decode b_Mo_edit 198 = .ok (.iinc 8 (-1), 3) := by decide +kernel
theorem d_Mo_edit_201 : decode b_Mo_edit 201 = .ok (.goto (-41), 3) := by decide +kernel
theorem d_Mo_edit_204 : decode b_Mo_edit 204 = .ok (.aload_n 0, 1) := by decide +kernel
theorem d_Mo_edit_205 : decode b_Mo_edit 205 = .ok (.aload_n 0, 1) := by decide +kernel
theorem d_Mo_edit_206 : decode b_Mo_edit 206 = .ok (.getfield 44, 3) := by decide +kernel
theorem d_Mo_edit_209 : decode b_Mo_edit 209 = .ok (.putfield 78, 3) := by decide +kernel
theorem d_Mo_edit_212 : decode b_Mo_edit 212 = .ok (.iconst 0, 1) := by decide +kernel
theorem d_Mo_edit_213 : decode b_Mo_edit 213 = .ok (.istore 8, 2) := by decide +kernel
theorem d_Mo_edit_215 : decode b_Mo_edit 215 = .ok (.iload 8, 2) := by decide +kernel
theorem d_Mo_edit_217 : decode b_Mo_edit 217 = .ok (.aload_n 0, 1) := by decide +kernel
theorem d_Mo_edit_218 : decode b_Mo_edit 218 = .ok (.getfield 44, 3) := by decide +kernel
theorem d_Mo_edit_221 : decode b_Mo_edit 221 = .ok (.if_icmp .ge 23, 3) := by decide +kernel
theorem d_Mo_edit_224 : decode b_Mo_edit 224 = .ok (.aload_n 0, 1) := by decide +kernel
theorem d_Mo_edit_225 : decode b_Mo_edit 225 = .ok (.getfield 35, 3) := by decide +kernel
theorem d_Mo_edit_228 : decode b_Mo_edit 228 = .ok (.iload 8, 2) := by decide +kernel
theorem d_Mo_edit_230 : decode b_Mo_edit 230 = .ok (.aload_n 0, 1) := by decide +kernel
theorem d_Mo_edit_231 : decode b_Mo_edit 231 = .ok (.getfield 19, 3) := by decide +kernel
theorem d_Mo_edit_234 : decode b_Mo_edit 234 = .ok (.iload 8, 2) := by decide +kernel
theorem d_Mo_edit_236 : decode b_Mo_edit 236 = .ok (.iaload, 1) := by decide +kernel
theorem d_Mo_edit_237 : decode b_Mo_edit 237 = .ok (.iastore, 1) := by decide +kernel
theorem d_Mo_edit_238 : decode b_Mo_edit 238 = .ok (.iinc 8 1, 3) := by decide +kernel
theorem d_Mo_edit_241 : decode b_Mo_edit 241 = .ok (.goto (-26), 3) := by decide +kernel
theorem d_Mo_edit_244 : decode b_Mo_edit 244 = .ok (.aload_n 0, 1) := by decide +kernel
theorem d_Mo_edit_245 : decode b_Mo_edit 245 = .ok (.aload_n 0, 1) := by decide +kernel
theorem d_Mo_edit_246 : decode b_Mo_edit 246 = .ok (.getfield 31, 3) := by decide +kernel
theorem d_Mo_edit_249 : decode b_Mo_edit 249 = .ok (.putfield 72, 3) := by decide +kernel
theorem d_Mo_edit_252 : decode b_Mo_edit 252 = .ok (.aload_n 0, 1) := by decide +kernel
theorem d_Mo_edit_253 : decode b_Mo_edit 253 = .ok (.aload_n 0, 1) := by decide +kernel
theorem d_Mo_edit_254 : decode b_Mo_edit 254 = .ok (.getfield 41, 3) := by decide +kernel
theorem d_Mo_edit_257 : decode b_Mo_edit 257 = .ok (.putfield 75, 3) := by decide +kernel
theorem d_Mo_edit_260 : decode b_Mo_edit 260 = .ok (.aload_n 0, 1) := by decide +kernel
theorem d_Mo_edit_261 : decode b_Mo_edit 261 = .ok (.iload_n 1, 1) := by decide +kernel
theorem d_Mo_edit_262 : decode b_Mo_edit 262 = .ok (.iload_n 2, 1) := by decide +kernel
theorem d_Mo_edit_263 : decode b_Mo_edit 263 = .ok (.lload_n 3, 1) := by decide +kernel
theorem d_Mo_edit_264 : decode b_Mo_edit 264 = .ok (.iload 5, 2) := by decide +kernel
theorem d_Mo_edit_266 : decode b_Mo_edit 266 = .ok (.invokevirtual 85, 3) := by decide +kernel
theorem d_Mo_edit_269 : decode b_Mo_edit 269 = .ok (.aload_n 0, 1) := by decide +kernel
theorem d_Mo_edit_270 : decode b_Mo_edit 270 = .ok (.dup, 1) := by decide +kernel
theorem d_Mo_edit_271 : decode b_Mo_edit 271 = .ok (.getfield 56, 3) := by decide +kernel
theorem d_Mo_edit_274 : decode b_Mo_edit 274 = .ok (.iconst 1, 1) := by decide +kernel
theorem d_Mo_edit_275 : decode b_Mo_edit 275 = .ok (.iadd, 1) := by decide +kernel
theorem d_Mo_edit_276 : decode b_Mo_edit 276 = .ok (.putfield 56, 3) := by decide +kernel
theorem d_Mo_edit_279 : decode b_Mo_edit 279 = .ok (.aload_n 0, 1) := by decide +kernel
theorem d_Mo_edit_280 : decode b_Mo_edit 280 = .ok (.iconst 0, 1) := by decide +kernel
theorem d_Mo_edit_281 : decode b_Mo_edit 281 = .ok (.putfield 50, 3) := by decide +kernel
theorem d_Mo_edit_284 : decode b_Mo_edit 284 = .ok (.aload_n 0, 1) := by decide +kernel
theorem d_Mo_edit_285 : decode b_Mo_edit 285 = .ok (.iconst 0, 1) := by decide +kernel
theorem d_Mo_edit_286 : decode b_Mo_edit 286 = .ok (.putfield 53, 3) := by decide +kernel
theorem d_Mo_edit_289 : decode b_Mo_edit 289 = .ok (.iload 7, 2) := by decide +kernel
theorem d_Mo_edit_291 : decode b_Mo_edit 291 = .ok (.ifCond .lt 13, 3) := by decide +kernel
theorem d_Mo_edit_294 : decode b_Mo_edit 294 = .ok (.aload_n 0, 1) := by decide +kernel
theorem d_Mo_edit_295 : decode b_Mo_edit 295 = .ok (.iload 7, 2) := by decide +kernel
theorem d_Mo_edit_297 : decode b_Mo_edit 297 = .ok (.iload_n 1, 1) := by decide +kernel
theorem d_Mo_edit_298 : decode b_Mo_edit 298 = .ok (.iload_n 2, 1) := by decide +kernel
theorem d_Mo_edit_299 : decode b_Mo_edit 299 = .ok (.iload 5, 2) := by decide +kernel
theorem d_Mo_edit_301 : decode b_Mo_edit 301 = .ok (.invokevirtual 89, 3) := by decide +kernel
theorem d_Mo_edit_304 : decode b_Mo_edit 304 = .ok (.aload_n 0, 1) := by decide +kernel
theorem d_Mo_edit_305 : decode b_Mo_edit 305 = .ok (.invokevirtual 93, 3) := by decide +kernel
theorem d_Mo_edit_308 : decode b_Mo_edit 308 = .ok (.aload_n 0, 1) := by decide +kernel
theorem d_Mo_edit_309 : decode b_Mo_edit 309 = .ok (.getfield 50, 3) := by decide +kernel
theorem d_Mo_edit_312 : decode b_Mo_edit 312 = .ok (.ireturn, 1) := by decide +kernel
theorem d_Mo_change_0 : decode b_Mo_change 0 = .ok (.aload_n 0, 1) := by decide +kernel
theorem d_Mo_change_1 : decode b_Mo_change 1 = .ok (.getfield 41, 3) := by decide +kernel
theorem d_Mo_change_4 : decode b_Mo_change 4 = .ok (.iload_n 2, 1) := by decide +kernel
theorem d_Mo_change_5 : decode b_Mo_change 5 = .ok (.isub, 1) := by decide +kernel
theorem d_Mo_change_6 : decode b_Mo_change 6 = .ok (.iload 5, 2) := by decide +kernel
theorem d_Mo_change_8 : decode b_Mo_change 8 = .ok (.iadd, 1) := by decide +kernel
theorem d_Mo_change_9 : decode b_Mo_change 9 = .ok (.istore 6, 2) := by decide +kernel
theorem d_Mo_change_11 : decode b_Mo_change 11 = .ok (.iload 5, 2) := by decide +kernel
theorem d_Mo_change_13 : decode b_Mo_change 13 = .ok (.iload_n 2, 1) := by decide +kernel
theorem d_Mo_change_14 : decode b_Mo_change 14 = .ok (.if_icmp .le 46, 3) := by decide +kernel
theorem d_Mo_change_17 : decode b_Mo_change 17 = .ok (.iload 6, 2) := by decide +kernel
theorem d_Mo_change_19 : decode b_Mo_change 19 = .ok (.iconst 1, 1) := by decide +kernel
theorem d_Mo_change_20 : decode b_Mo_change 20 = .ok (.isub, 1) := by decide +kernel
theorem d_Mo_change_21 : decode b_Mo_change 21 = .ok (.istore 7, 2) := by decide +kernel
theorem d_Mo_change_23 : decode b_Mo_change 23 = .ok (.iload 7, 2) := by decide +kernel
theorem d_Mo_change_25 : decode b_Mo_change 25 = .ok (.iload_n 1, 1) := by decide +kernel
theorem d_Mo_change_26 : decode b_Mo_change 26 = .ok (.iload 5, 2) := by decide +kernel
theorem d_Mo_change_28 : decode b_Mo_change 28 = .ok (.iadd, 1) := by decide +kernel
theorem d_Mo_change_29 : decode b_Mo_change 29 = .ok (.if_icmp .lt 28, 3) := by decide +kernel
theorem d_Mo_change_32 : decode b_Mo_change 32 = .ok (.aload_n 0, 1) := by decide +kernel
theorem d_Mo_change_33 : decode b_Mo_change 33 = .ok (.getfield 16, 3) := by decide +kernel
theorem d_Mo_change_36 : decode b_Mo_change 36 = .ok (.iload 7, 2) := by decide +kernel
theorem d_Mo_change_38 : decode b_Mo_change 38 = .ok (.aload_n 0, 1) := by decide +kernel
theorem d_Mo_change_39 : decode b_Mo_change 39 = .ok (.getfield 16, 3) := by decide +kernel
theorem d_Mo_change_42 : decode b_Mo_change 42 = .ok (.iload 7, 2) := by decide +kernel
theorem d_Mo_change_44 : decode b_Mo_change 44 = .ok (.iload 5, 2) := by decide +kernel
theorem d_Mo_change_46 : decode b_Mo_change 46 = .ok (.isub, 1) := by decide +kernel
theorem d_Mo_change_47 : decode b_Mo_change 47 = .ok (.iload_n 2, 1) := by decide +kernel
theorem d_Mo_change_48 : decode b_Mo_change 48 = .ok (.iadd, 1) := by decide +kernel
theorem d_Mo_change_49 : decode b_Mo_change 49 = .ok (.iaload, 1) := by decide +kernel
theorem d_Mo_change_50 : decode b_Mo_change 50 = .ok (.iastore, 1) := by decide +kernel
theorem d_Mo_change_51 : decode b_Mo_change 51 = .ok (.iinc 7 (-1), 3) := by decide +kernel
theorem d_Mo_change_54 : decode b_Mo_change 54 = .ok (.goto (-31), 3) := by decide +kernel
theorem d_Mo_change_57 : decode b_Mo_change 57 = .ok (.goto 41, 3) := by decide +kernel
theorem d_Mo_change_60 : decode b_Mo_change 60 = .ok (.iload_n 1, 1) := by decide +kernel
theorem d_Mo_change_61 : decode b_Mo_change 61 = .ok (.iload 5, 2) := by decide +kernel
theorem d_Mo_change_63 : decode b_Mo_change 63 = .ok (.iadd, 1) := by decide +kernel
theorem d_Mo_change_64 : decode b_Mo_change 64 = .ok (.istore 7, 2) := by decide +kernel
theorem d_Mo_change_66 : decode b_Mo_change 66 = .ok (.iload 7, 2) := by decide +kernel
theorem d_Mo_change_68 : decode b_Mo_change 68 = .ok (.iload 6, 2) := by decide +kernel
theorem d_Mo_change_70 : decode b_Mo_change 70 = .ok (.if_icmp .ge 28, 3) := by decide +kernel
theorem d_Mo_change_73 : decode b_Mo_change 73 = .ok (.aload_n 0, 1) := by decide +kernel
theorem d_Mo_change_74 : decode b_Mo_change 74 = .ok (.getfield 16, 3) := by decide +kernel
theorem d_Mo_change_77 : decode b_Mo_change 77 = .ok (.iload 7, 2) := by decide +kernel
theorem d_Mo_change_79 : decode b_Mo_change 79 = .ok (.aload_n 0, 1) := by decide +kernel
theorem d_Mo_change_80 : decode b_Mo_change 80 = .ok (.getfield 16, 3) := by decide +kernel
theorem d_Mo_change_83 : decode b_Mo_change 83 = .ok (.iload 7, 2) := by decide +kernel
theorem d_Mo_change_85 : decode b_Mo_change 85 = .ok (.iload 5, 2) := by decide +kernel
theorem d_Mo_change_87 : decode b_Mo_change 87 = .ok (.isub, 1) := by decide +kernel
theorem d_Mo_change_88 : decode b_Mo_change 88 = .ok (.iload_n 2, 1) := by decide +kernel
theorem d_Mo_change_89 : decode b_Mo_change 89 = .ok (.iadd, 1) := by decide +kernel
theorem d_Mo_change_90 : decode b_Mo_change 90 = .ok (.iaload, 1) := by decide +kernel
theorem d_Mo_change_91 : decode b_Mo_change 91 = .ok (.iastore, 1) := by decide +kernel
theorem d_Mo_change_92 : decode b_Mo_change 92 = .ok (.iinc 7 1, 3) := by decide +kernel
theorem d_Mo_change_95 : decode b_Mo_change 95 = .ok (.goto (-29), 3) := by decide +kernel
theorem d_Mo_change_98 : decode b_Mo_change 98 = .ok (.iconst 0, 1) := by decide +kernel
theorem d_Mo_change_99 : decode b_Mo_change 99 = .ok (.istore 7, 2) := by decide +kernel
theorem d_Mo_change_101 : decode b_Mo_change 101 = .ok (.iload 7, 2) := by decide +kernel
theorem d_Mo_change_103 : decode b_Mo_change 103 = .ok (.iload 5, 2) := by decide +kernel
theorem d_Mo_change_105 : decode b_Mo_change 105 = .ok (.if_icmp .ge 34, 3) := by decide +kernel
theorem d_Mo_change_108 : decode b_Mo_change 108 = .ok (.aload_n 0, 1) := by decide +kernel
theorem d_Mo_change_109 : decode b_Mo_change 109 = .ok (.getfield 16, 3) := by decide +kernel
theorem d_Mo_change_112 : decode b_Mo_change 112 = .ok (.iload_n 1, 1) := by decide +kernel
theorem d_Mo_change_113 : decode b_Mo_change 113 = .ok (.iload 7, 2) := by decide +kernel
theorem d_Mo_change_115 : decode b_Mo_change 115 = .ok (.iadd, 1) := by decide +kernel
theorem d_Mo_change_116 : decode b_Mo_change 116 = .ok (.lload_n 3, 1) := by decide +kernel
theorem d_Mo_change_117 : decode b_Mo_change 117 = .ok (.iconst 4, 1) := by decide +kernel
theorem d_Mo_change_118 : decode b_Mo_change 118 = .ok (.iload 5, 2) := by decide +kernel
theorem d_Mo_change_120 : decode b_Mo_change 120 = .ok (.iconst 1, 1) := by decide +kernel
theorem d_Mo_change_121 : decode b_Mo_change 121 = .ok (.isub, 1) := by decide +kernel
theorem d_Mo_change_122 : decode b_Mo_change 122 = .ok (.iload 7, 2) := by decide +kernel
theorem d_Mo_change_124 : decode b_Mo_change 124 = .ok (.isub, 1) := by decide +kernel
theorem d_Mo_change_125 : decode b_Mo_change 125 = .ok (.imul, 1) := by decide +kernel
theorem d_Mo_change_126 : decode b_Mo_change 126 = .ok (.lshr, 1) := by decide +kernel
theorem d_Mo_change_127 : decode b_Mo_change 127 = .ok (.ldc2_w 81, 3) := by decide +kernel
theorem d_Mo_change_130 : decode b_Mo_change 130 = .ok (.land, 1) := by decide +kernel
theorem d_Mo_change_131 : decode b_Mo_change 131 = .ok (.l2i, 1) := by decide +kernel
theorem d_Mo_change_132 : decode b_Mo_change 132 = .ok (.iastore, 1) := by decide +kernel
theorem d_Mo_change_133 : decode b_Mo_change 133 = .ok (.iinc 7 1, 3) := by decide +kernel
theorem d_Mo_change_136 : decode b_Mo_change 136 = .ok (.goto (-35), 3) := by decide +kernel
theorem d_Mo_change_139 : decode b_Mo_change 139 = .ok (.aload_n 0, 1) := by decide +kernel
theorem d_Mo_change_140 : decode b_Mo_change 140 = .ok (.iload 6, 2) := by decide +kernel
theorem d_Mo_change_142 : decode b_Mo_change 142 = .ok (.putfield 41, 3) := by decide +kernel
theorem d_Mo_change_145 : decode b_Mo_change 145 = .ok (.return_, 1) := by decide +kernel
theorem d_Mo_goOver_0 : decode b_Mo_goOver 0 = .ok (.iload_n 1, 1) := by decide +kernel
theorem d_Mo_goOver_1 : decode b_Mo_goOver 1 = .ok (.istore 5, 2) := by decide +kernel
theorem d_Mo_goOver_3 : decode b_Mo_goOver 3 = .ok (.iconst 1, 1) := by decide +kernel
theorem d_Mo_goOver_4 : decode b_Mo_goOver 4 = .ok (.istore 6, 2) := by decide +kernel
theorem d_Mo_goOver_6 : decode b_Mo_goOver 6 = .ok (.iload 6, 2) := by decide +kernel
theorem d_Mo_goOver_8 : decode b_Mo_goOver 8 = .ok (.ifCond .eq 90, 3) := by decide +kernel
theorem d_Mo_goOver_11 : decode b_Mo_goOver 11 = .ok (.iload 5, 2) := by decide +kernel
theorem d_Mo_goOver_13 : decode b_Mo_goOver 13 = .ok (.aload_n 0, 1) := by decide +kernel
theorem d_Mo_goOver_14 : decode b_Mo_goOver 14 = .ok (.getfield 41, 3) := by decide +kernel
theorem d_Mo_goOver_17 : decode b_Mo_goOver 17 = .ok (.if_icmp .ge 81, 3) := by decide +kernel
theorem d_Mo_goOver_20 : decode b_Mo_goOver 20 = .ok (.iload 5, 2) := by decide +kernel
theorem d_Mo_goOver_22 : decode b_Mo_goOver 22 = .ok (.iload_n 2, 1) := by decide +kernel
theorem d_Mo_goOver_23 : decode b_Mo_goOver 23 = .ok (.iload 4, 2) := by decide +kernel
theorem d_Mo_goOver_25 : decode b_Mo_goOver 25 = .ok (.iadd, 1) := by decide +kernel
theorem d_Mo_goOver_26 : decode b_Mo_goOver 26 = .ok (.if_icmp .lt 17, 3) := by decide +kernel
theorem d_Mo_goOver_29 : decode b_Mo_goOver 29 = .ok (.aload_n 0, 1) := by decide +kernel
theorem d_Mo_goOver_30 : decode b_Mo_goOver 30 = .ok (.iload 5, 2) := by decide +kernel
theorem d_Mo_goOver_32 : decode b_Mo_goOver 32 = .ok (.iload 4, 2) := by decide +kernel
theorem d_Mo_goOver_34 : decode b_Mo_goOver 34 = .ok (.isub, 1) := by decide +kernel
theorem d_Mo_goOver_35 : decode b_Mo_goOver 35 = .ok (.iload_n 3, 1) := by decide +kernel
theorem d_Mo_goOver_36 : decode b_Mo_goOver 36 = .ok (.iadd, 1) := by decide +kernel
theorem d_Mo_goOver_37 : decode b_Mo_goOver 37 = .ok (.invokevirtual 96, 3) := by decide +kernel
theorem d_Mo_goOver_40 : decode b_Mo_goOver 40 = .ok (.ifCond .ne 58, 3) := by decide +kernel
theorem d_Mo_goOver_43 : decode b_Mo_goOver 43 = .ok (.aload_n 0, 1) := by decide +kernel
theorem d_Mo_goOver_44 : decode b_Mo_goOver 44 = .ok (.iload 5, 2) := by decide +kernel
theorem d_Mo_goOver_46 : decode b_Mo_goOver 46 = .ok (.invokevirtual 68, 3) := by decide +kernel
theorem d_Mo_goOver_49 : decode b_Mo_goOver 49 = .ok (.istore 6, 2) := by decide +kernel
theorem d_Mo_goOver_51 : decode b_Mo_goOver 51 = .ok (.aload_n 0, 1) := by decide +kernel
theorem d_Mo_goOver_52 : decode b_Mo_goOver 52 = .ok (.aload_n 0, 1) := by decide +kernel
theorem d_Mo_goOver_53 : decode b_Mo_goOver 53 = .ok (.getfield 50, 3) := by decide +kernel
theorem d_Mo_goOver_56 : decode b_Mo_goOver 56 = .ok (.aload_n 0, 1) := by decide +kernel
theorem d_Mo_goOver_57 : decode b_Mo_goOver 57 = .ok (.getfield 65, 3) := by decide +kernel
theorem d_Mo_goOver_60 : decode b_Mo_goOver 60 = .ok (.iadd, 1) := by decide +kernel
theorem d_Mo_goOver_61 : decode b_Mo_goOver 61 = .ok (.putfield 50, 3) := by decide +kernel
theorem d_Mo_goOver_64 : decode b_Mo_goOver 64 = .ok (.aload_n 0, 1) := by decide +kernel
theorem d_Mo_goOver_65 : decode b_Mo_goOver 65 = .ok (.iload 6, 2) := by decide +kernel
theorem d_Mo_goOver_67 : decode b_Mo_goOver 67 = .ok (.ifCond .eq 12, 3) := by decide +kernel
theorem d_Mo_goOver_70 : decode b_Mo_goOver 70 = .ok (.aload_n 0, 1) := by decide +kernel
theorem d_Mo_goOver_71 : decode b_Mo_goOver 71 = .ok (.getfield 53, 3) := by decide +kernel
theorem d_Mo_goOver_74 : decode b_Mo_goOver 74 = .ok (.iconst 1, 1) := by decide +kernel
theorem d_Mo_goOver_75 : decode b_Mo_goOver 75 = .ok (.iadd, 1) := by decide +kernel
theorem d_Mo_goOver_76 : decode b_Mo_goOver 76 = .ok (.goto 7, 3) := by decide +kernel
theorem d_Mo_goOver_79 : decode b_Mo_goOver 79 = .ok (.aload_n 0, 1) := by decide +kernel
theorem d_Mo_goOver_80 : decode b_Mo_goOver 80 = .ok (.getfield 53, 3) := by decide +kernel
theorem d_Mo_goOver_83 : decode b_Mo_goOver 83 = .ok (.putfield 53, 3) := by decide +kernel
theorem d_Mo_goOver_86 : decode b_Mo_goOver 86 = .ok (.iload 5, 2) := by decide +kernel
theorem d_Mo_goOver_88 : decode b_Mo_goOver 88 = .ok (.aload_n 0, 1) := by decide +kernel
theorem d_Mo_goOver_89 : decode b_Mo_goOver 89 = .ok (.getfield 59, 3) := by decide +kernel
theorem d_Mo_goOver_92 : decode b_Mo_goOver 92 = .ok (.iadd, 1) := by decide +kernel
theorem d_Mo_goOver_93 : decode b_Mo_goOver 93 = .ok (.istore 5, 2) := by decide +kernel
theorem d_Mo_goOver_95 : decode b_Mo_goOver 95 = .ok (.goto (-89), 3) := by decide +kernel
theorem d_Mo_goOver_98 : decode b_Mo_goOver 98 = .ok (.return_, 1) := by decide +kernel
theorem d_Mo_token_0 : decode b_Mo_token 0 = .ok (.iload_n 1, 1) := by decide +kernel
theorem d_Mo_token_1 : decode b_Mo_token 1 = .ok (.ifCond .lt 11, 3) := by decide +kernel
theorem d_Mo_token_4 : decode b_Mo_token 4 = .ok (.iload_n 1, 1) := by decide +kernel
theorem d_Mo_token_5 : decode b_Mo_token 5 = .ok (.aload_n 0, 1) := by decide +kernel
theorem d_Mo_token_6 : decode b_Mo_token 6 = .ok (.getfield 44, 3) := by decide +kernel
theorem d_Mo_token_9 : decode b_Mo_token 9 = .ok (.if_icmp .lt 5, 3) := by decide +kernel
theorem d_Mo_token_12 : decode b_Mo_token 12 = .ok (.iconst (-1), 1) := by decide +kernel
theorem d_Mo_token_13 : decode b_Mo_token 13 = .ok (.ireturn, 1) := by decide +kernel
theorem d_Mo_token_14 : decode b_Mo_token 14 = .ok (.iload_n 2, 1) := by decide +kernel
theorem d_Mo_token_15 : decode b_Mo_token 15 = .ok (.ifCond .ne 12, 3) := by decide +kernel
theorem d_Mo_token_18 : decode b_Mo_token 18 = .ok (.aload_n 0, 1) := by decide +kernel
theorem d_Mo_token_19 : decode b_Mo_token 19 = .ok (.getfield 19, 3) := by decide +kernel
theorem d_Mo_token_22 : decode b_Mo_token 22 = .ok (.iload_n 1, 1) := by decide +kernel
theorem d_Mo_token_23 : decode b_Mo_token 23 = .ok (.iaload, 1) := by decide +kernel
theorem d_Mo_token_24 : decode b_Mo_token 24 = .ok (.goto 46, 3) := by decide +kernel
theorem d_Mo_token_27 : decode b_Mo_token 27 = .ok (.iload_n 2, 1) := by decide +kernel
theorem d_Mo_token_28 : decode b_Mo_token 28 = .ok (.iconst 1, 1) := by decide +kernel
theorem d_Mo_token_29 : decode b_Mo_token 29 = .ok (.if_icmp .ne 12, 3) := by decide +kernel
theorem d_Mo_token_32 : decode b_Mo_token 32 = .ok (.aload_n 0, 1) := by decide +kernel
theorem d_Mo_token_33 : decode b_Mo_token 33 = .ok (.getfield 22, 3) := by decide +kernel
theorem d_Mo_token_36 : decode b_Mo_token 36 = .ok (.iload_n 1, 1) := by decide +kernel
theorem d_Mo_token_37 : decode b_Mo_token 37 = .ok (.iaload, 1) := by decide +kernel
theorem d_Mo_token_38 : decode b_Mo_token 38 = .ok (.goto 32, 3) := by decide +kernel
theorem d_Mo_token_41 : decode b_Mo_token 41 = .ok (.iload_n 2, 1) := by decide +kernel
theorem d_Mo_token_42 : decode b_Mo_token 42 = .ok (.iconst 2, 1) := by decide +kernel
theorem d_Mo_token_43 : decode b_Mo_token 43 = .ok (.if_icmp .ne 12, 3) := by decide +kernel
theorem d_Mo_token_46 : decode b_Mo_token 46 = .ok (.aload_n 0, 1) := by decide +kernel
theorem d_Mo_token_47 : decode b_Mo_token 47 = .ok (.getfield 25, 3) := by decide +kernel
theorem d_Mo_token_50 : decode b_Mo_token 50 = .ok (.iload_n 1, 1) := by decide +kernel
theorem d_Mo_token_51 : decode b_Mo_token 51 = .ok (.iaload, 1) := by decide +kernel
theorem d_Mo_token_52 : decode b_Mo_token 52 = .ok (.goto 18, 3) := by decide +kernel
theorem d_Mo_token_55 : decode b_Mo_token 55 = .ok (.iload_n 2, 1) := by decide +kernel
theorem d_Mo_token_56 : decode b_Mo_token 56 = .ok (.iconst 3, 1) := by decide +kernel
theorem d_Mo_token_57 : decode b_Mo_token 57 = .ok (.if_icmp .ne 12, 3) := by decide +kernel
theorem d_Mo_token_60 : decode b_Mo_token 60 = .ok (.aload_n 0, 1) := by decide +kernel
theorem d_Mo_token_61 : decode b_Mo_token 61 = .ok (.getfield 28, 3) := by decide +kernel
theorem d_Mo_token_64 : decode b_Mo_token 64 = .ok (.iload_n 1, 1) := by decide +kernel
theorem d_Mo_token_65 : decode b_Mo_token 65 = .ok (.iaload, 1) := by decide +kernel
theorem d_Mo_token_66 : decode b_Mo_token 66 = .ok (.goto 4, 3) := by decide +kernel
theorem d_Mo_token_69 : decode b_Mo_token 69 = .ok (.iconst (-1), 1) := by decide +kernel
theorem d_Mo_token_70 : decode b_Mo_token 70 = .ok (.ireturn, 1) := by decide +kernel
theorem d_Mo_tokenAt_0 : decode b_Mo_tokenAt 0 = .ok (.iconst (-1), 1) := by decide +kernel
theorem d_Mo_tokenAt_1 : decode b_Mo_tokenAt 1 = .ok (.istore_n 2, 1) := by decide +kernel
theorem d_Mo_tokenAt_2 : decode b_Mo_tokenAt 2 = .ok (.iconst 0, 1) := by decide +kernel
theorem d_Mo_tokenAt_3 : decode b_Mo_tokenAt 3 = .ok (.istore_n 3, 1) := by decide +kernel
theorem d_Mo_tokenAt_4 : decode b_Mo_tokenAt 4 = .ok (.iload_n 3, 1) := by decide +kernel
theorem d_Mo_tokenAt_5 : decode b_Mo_tokenAt 5 = .ok (.aload_n 0, 1) := by decide +kernel
theorem d_Mo_tokenAt_6 : decode b_Mo_tokenAt 6 = .ok (.getfield 44, 3) := by decide +kernel
theorem d_Mo_tokenAt_9 : decode b_Mo_tokenAt 9 = .ok (.if_icmp .ge 42, 3) := by decide +kernel
theorem d_Mo_tokenAt_12 : decode b_Mo_tokenAt 12 = .ok (.iload_n 1, 1) := by decide +kernel
theorem d_Mo_tokenAt_13 : decode b_Mo_tokenAt 13 = .ok (.aload_n 0, 1) := by decide +kernel
theorem d_Mo_tokenAt_14 : decode b_Mo_tokenAt 14 = .ok (.getfield 19, 3) := by decide +kernel
theorem d_Mo_tokenAt_17 : decode b_Mo_tokenAt 17 = .ok (.iload_n 3, 1) := by decide +kernel
theorem d_Mo_tokenAt_18 : decode b_Mo_tokenAt 18 = .ok (.iaload, 1) := by decide +kernel
theorem d_Mo_tokenAt_19 : decode b_Mo_tokenAt 19 = .ok (.if_icmp .lt 24, 3) := by decide +kernel
theorem d_Mo_tokenAt_22 : decode b_Mo_tokenAt 22 = .ok (.iload_n 1, 1) := by decide +kernel
theorem d_Mo_tokenAt_23 : decode b_Mo_tokenAt 23 = .ok (.aload_n 0, 1) := by decide +kernel
theorem d_Mo_tokenAt_24 : decode b_Mo_tokenAt 24 = .ok (.getfield 19, 3) := by decide +kernel
theorem d_Mo_tokenAt_27 : decode b_Mo_tokenAt 27 = .ok (.iload_n 3, 1) := by decide +kernel
theorem d_Mo_tokenAt_28 : decode b_Mo_tokenAt 28 = .ok (.iaload, 1) := by decide +kernel
theorem d_Mo_tokenAt_29 : decode b_Mo_tokenAt 29 = .ok (.aload_n 0, 1) := by decide +kernel
theorem d_Mo_tokenAt_30 : decode b_Mo_tokenAt 30 = .ok (.getfield 22, 3) := by decide +kernel
theorem d_Mo_tokenAt_33 : decode b_Mo_tokenAt 33 = .ok (.iload_n 3, 1) := by decide +kernel
theorem d_Mo_tokenAt_34 : decode b_Mo_tokenAt 34 = .ok (.iaload, 1) := by decide +kernel
theorem d_Mo_tokenAt_35 : decode b_Mo_tokenAt 35 = .ok (.iadd, 1) := by decide +kernel
theorem d_Mo_tokenAt_36 : decode b_Mo_tokenAt 36 = .ok (.if_icmp .ge 7, 3) := by decide +kernel
theorem d_Mo_tokenAt_39 : decode b_Mo_tokenAt 39 = .ok (.iload_n 3, 1) := by decide +kernel
theorem d_Mo_tokenAt_40 : decode b_Mo_tokenAt 40 = .ok (.goto 4, 3) := by decide +kernel
theorem d_Mo_tokenAt_43 : decode b_Mo_tokenAt 43 = .ok (.iload_n 2, 1) := by decide +kernel
theorem d_Mo_tokenAt_44 : decode b_Mo_tokenAt 44 = .ok (.istore_n 2, 1) := by decide +kernel
theorem d_Mo_tokenAt_45 : decode b_Mo_tokenAt 45 = .ok (.iinc 3 1, 3) := by decide +kernel
theorem d_Mo_tokenAt_48 : decode b_Mo_tokenAt 48 = .ok (.goto (-44), 3) := by decide +kernel
theorem d_Mo_tokenAt_51 : decode b_Mo_tokenAt 51 = .ok (.iload_n 2, 1) := by decide +kernel
theorem d_Mo_tokenAt_52 : decode b_Mo_tokenAt 52 = .ok (.ireturn, 1) := by decide +kernel
theorem d_Mo_symbol_0 : decode b_Mo_symbol 0 = .ok (.iload_n 1, 1) := by decide +kernel
theorem d_Mo_symbol_1 : decode b_Mo_symbol 1 = .ok (.ifCond .lt 20, 3) := by decide +kernel
theorem d_Mo_symbol_4 : decode b_Mo_symbol 4 = .ok (.iload_n 1, 1) := by decide +kernel
theorem d_Mo_symbol_5 : decode b_Mo_symbol 5 = .ok (.aload_n 0, 1) := by decide +kernel
theorem d_Mo_symbol_6 : decode b_Mo_symbol 6 = .ok (.getfield 41, 3) := by decide +kernel
theorem d_Mo_symbol_9 : decode b_Mo_symbol 9 = .ok (.if_icmp .ge 12, 3) := by decide +kernel
theorem d_Mo_symbol_12 : decode b_Mo_symbol 12 = .ok (.aload_n 0, 1) := by decide +kernel
theorem d_Mo_symbol_13 : decode b_Mo_symbol 13 = .ok (.getfield 16, 3) := by decide +kernel
theorem d_Mo_symbol_16 : decode b_Mo_symbol 16 = .ok (.iload_n 1, 1) := by decide +kernel
theorem d_Mo_symbol_17 : decode b_Mo_symbol 17 = .ok (.iaload, 1) := by decide +kernel
theorem d_Mo_symbol_18 : decode b_Mo_symbol 18 = .ok (.goto 4, 3) := by decide +kernel
theorem d_Mo_symbol_21 : decode b_Mo_symbol 21 = .ok (.iconst (-1), 1) := by decide +kernel
theorem d_Mo_symbol_22 : decode b_Mo_symbol 22 = .ok (.ireturn, 1) := by decide +kernel
theorem d_Mo_count_0 : decode b_Mo_count 0 = .ok (.iload_n 1, 1) := by decide +kernel
theorem d_Mo_count_1 : decode b_Mo_count 1 = .ok (.ifCond .ne 10, 3) := by decide +kernel
theorem d_Mo_count_4 : decode b_Mo_count 4 = .ok (.aload_n 0, 1) := by decide +kernel
theorem d_Mo_count_5 : decode b_Mo_count 5 = .ok (.getfield 44, 3) := by decide +kernel
theorem d_Mo_count_8 : decode b_Mo_count 8 = .ok (.goto 77, 3) := by decide +kernel
theorem d_Mo_count_11 : decode b_Mo_count 11 = .ok (.iload_n 1, 1) := by decide +kernel
theorem d_Mo_count_12 : decode b_Mo_count 12 = .ok (.iconst 1, 1) := by decide +kernel
theorem d_Mo_count_13 : decode b_Mo_count 13 = .ok (.if_icmp .ne 10, 3) := by decide +kernel
theorem d_Mo_count_16 : decode b_Mo_count 16 = .ok (.aload_n 0, 1) := by decide +kernel
theorem d_Mo_count_17 : decode b_Mo_count 17 = .ok (.getfield 41, 3) := by decide +kernel
theorem d_Mo_count_20 : decode b_Mo_count 20 = .ok (.goto 65, 3) := by decide +kernel
theorem d_Mo_count_23 : decode b_Mo_count 23 = .ok (.iload_n 1, 1) := by decide +kernel
theorem d_Mo_count_24 : decode b_Mo_count 24 = .ok (.iconst 2, 1) := by decide +kernel
theorem d_Mo_count_25 : decode b_Mo_count 25 = .ok (.if_icmp .ne 10, 3) := by decide +kernel
theorem d_Mo_count_28 : decode b_Mo_count 28 = .ok (.aload_n 0, 1) := by decide +kernel
theorem d_Mo_count_29 : decode b_Mo_count 29 = .ok (.getfield 31, 3) := by decide +kernel
theorem d_Mo_count_32 : decode b_Mo_count 32 = .ok (.goto 53, 3) := by decide +kernel
theorem d_Mo_count_35 : decode b_Mo_count 35 = .ok (.iload_n 1, 1) := by decide +kernel
theorem d_Mo_count_36 : decode b_Mo_count 36 = .ok (.iconst 3, 1) := by decide +kernel
theorem d_Mo_count_37 : decode b_Mo_count 37 = .ok (.if_icmp .ne 10, 3) := by decide +kernel
theorem d_Mo_count_40 : decode b_Mo_count 40 = .ok (.aload_n 0, 1) := by decide +kernel
theorem d_Mo_count_41 : decode b_Mo_count 41 = .ok (.getfield 47, 3) := by decide +kernel
theorem d_Mo_count_44 : decode b_Mo_count 44 = .ok (.goto 41, 3) := by decide +kernel
theorem d_Mo_count_47 : decode b_Mo_count 47 = .ok (.iload_n 1, 1) := by decide +kernel
theorem d_Mo_count_48 : decode b_Mo_count 48 = .ok (.iconst 4, 1) := by decide +kernel
theorem d_Mo_count_49 : decode b_Mo_count 49 = .ok (.if_icmp .ne 10, 3) := by decide +kernel
theorem d_Mo_count_52 : decode b_Mo_count 52 = .ok (.aload_n 0, 1) := by decide +kernel
theorem d_Mo_count_53 : decode b_Mo_count 53 = .ok (.getfield 50, 3) := by decide +kernel
theorem d_Mo_count_56 : decode b_Mo_count 56 = .ok (.goto 29, 3) := by decide +kernel
theorem d_Mo_count_59 : decode b_Mo_count 59 = .ok (.iload_n 1, 1) := by decide +kernel
theorem d_Mo_count_60 : decode b_Mo_count 60 = .ok (.iconst 5, 1) := by decide +kernel
theorem d_Mo_count_61 : decode b_Mo_count 61 = .ok (.if_icmp .ne 10, 3) := by decide +kernel
theorem d_Mo_count_64 : decode b_Mo_count 64 = .ok (.aload_n 0, 1) := by decide +kernel
theorem d_Mo_count_65 : decode b_Mo_count 65 = .ok (.getfield 53, 3) := by decide +kernel
theorem d_Mo_count_68 : decode b_Mo_count 68 = .ok (.goto 17, 3) := by decide +kernel
theorem d_Mo_count_71 : decode b_Mo_count 71 = .ok (.iload_n 1, 1) := by decide +kernel
theorem d_Mo_count_72 : decode b_Mo_count 72 = .ok (.bipush 6, 2) := by decide +kernel
theorem d_Mo_count_74 : decode b_Mo_count 74 = .ok (.if_icmp .ne 10, 3) := by decide +kernel
theorem d_Mo_count_77 : decode b_Mo_count 77 = .ok (.aload_n 0, 1) := by decide +kernel
theorem d_Mo_count_78 : decode b_Mo_count 78 = .ok (.getfield 56, 3) := by decide +kernel
theorem d_Mo_count_81 : decode b_Mo_count 81 = .ok (.goto 4, 3) := by decide +kernel
theorem d_Mo_count_84 : decode b_Mo_count 84 = .ok (.iconst (-1), 1) := by decide +kernel
theorem d_Mo_count_85 : decode b_Mo_count 85 = .ok (.ireturn, 1) := by decide +kernel
theorem d_Mo_clear_0 : decode b_Mo_clear 0 = .ok (.aload_n 0, 1) := by decide +kernel
theorem d_Mo_clear_1 : decode b_Mo_clear 1 = .ok (.getfield 44, 3) := by decide +kernel
theorem d_Mo_clear_4 : decode b_Mo_clear 4 = .ok (.istore_n 1, 1) := by decide +kernel
theorem d_Mo_clear_5 : decode b_Mo_clear 5 = .ok (.aload_n 0, 1) := by decide +kernel
theorem d_Mo_clear_6 : decode b_Mo_clear 6 = .ok (.invokevirtual 38, 3) := by decide +kernel
theorem d_Mo_clear_9 : decode b_Mo_clear 9 = .ok (.iload_n 1, 1) := by decide +kernel
theorem d_Mo_clear_10 : decode b_Mo_clear 10 = .ok (.ireturn, 1) := by decide +kernel
end
section
theorem d_law_0 : decode code 0 = .ok (.new 7, 3) := by decide +kernel
theorem d_law_3 : decode code 3 = .ok (.dup, 1) := by decide +kernel
theorem d_law_4 : decode code 4 = .ok (.invokespecial 9, 3) := by decide +kernel
theorem d_law_7 : decode code 7 = .ok (.astore_n 1, 1) := by decide +kernel
theorem d_law_8 : decode code 8 = .ok (.new 10, 3) := by decide +kernel
theorem d_law_11 : decode code 11 = .ok (.dup, 1) := by decide +kernel
theorem d_law_12 : decode code 12 = .ok (.invokespecial 12, 3) := by decide +kernel
theorem d_law_15 : decode code 15 = .ok (.astore_n 2, 1) := by decide +kernel
theorem d_law_16 : decode code 16 = .ok (.iconst 0, 1) := by decide +kernel
theorem d_law_17 : decode code 17 = .ok (.istore_n 3, 1) := by decide +kernel
theorem d_law_18 : decode code 18 = .ok (.iload_n 3, 1) := by decide +kernel
theorem d_law_19 : decode code 19 = .ok (.aload_n 0, 1) := by decide +kernel
theorem d_law_20 : decode code 20 = .ok (.arraylength, 1) := by decide +kernel
theorem d_law_21 : decode code 21 = .ok (.bipush 6, 2) := by decide +kernel
theorem d_law_23 : decode code 23 = .ok (.isub, 1) := by decide +kernel
theorem d_law_24 : decode code 24 = .ok (.if_icmp .gt 336, 3) := by decide +kernel
theorem d_law_27 : decode code 27 = .ok (.aload_n 0, 1) := by decide +kernel
theorem d_law_28 : decode code 28 = .ok (.iload_n 3, 1) := by decide +kernel
theorem d_law_29 : decode code 29 = .ok (.iaload, 1) := by decide +kernel
theorem d_law_30 : decode code 30 = .ok (.bipush 7, 2) := by decide +kernel
theorem d_law_32 : decode code 32 = .ok (.iand, 1) := by decide +kernel
theorem d_law_33 : decode code 33 = .ok (.tableswitch 321 0 7 #[47, 90, 123, 206, 239, 262, 285, 308], 47) := by decide +kernel
theorem d_law_80 : decode code 80 = .ok (.aload_n 1, 1) := by decide +kernel
theorem d_law_81 : decode code 81 = .ok (.aload_n 0, 1) := by decide +kernel
theorem d_law_82 : decode code 82 = .ok (.iload_n 3, 1) := by decide +kernel
theorem d_law_83 : decode code 83 = .ok (.iconst 1, 1) := by decide +kernel
theorem d_law_84 : decode code 84 = .ok (.iadd, 1) := by decide +kernel
theorem d_law_85 : decode code 85 = .ok (.iaload, 1) := by decide +kernel
theorem d_law_86 : decode code 86 = .ok (.aload_n 0, 1) := by decide +kernel
theorem d_law_87 : decode code 87 = .ok (.iload_n 3, 1) := by decide +kernel
theorem d_law_88 : decode code 88 = .ok (.iconst 2, 1) := by decide +kernel
theorem d_law_89 : decode code 89 = .ok (.iadd, 1) := by decide +kernel
theorem d_law_90 : decode code 90 = .ok (.iaload, 1) := by decide +kernel
theorem d_law_91 : decode code 91 = .ok (.aload_n 0, 1) := by decide +kernel
theorem d_law_92 : decode code 92 = .ok (.iload_n 3, 1) := by decide +kernel
theorem d_law_93 : decode code 93 = .ok (.iconst 3, 1) := by decide +kernel
theorem d_law_94 : decode code 94 = .ok (.iadd, 1) := by decide +kernel
theorem d_law_95 : decode code 95 = .ok (.iaload, 1) := by decide +kernel
theorem d_law_96 : decode code 96 = .ok (.invokevirtual 13, 3) := by decide +kernel
theorem d_law_99 : decode code 99 = .ok (.aload_n 2, 1) := by decide +kernel
theorem d_law_100 : decode code 100 = .ok (.aload_n 0, 1) := by decide +kernel
theorem d_law_101 : decode code 101 = .ok (.iload_n 3, 1) := by decide +kernel
theorem d_law_102 : decode code 102 = .ok (.iconst 1, 1) := by decide +kernel
theorem d_law_103 : decode code 103 = .ok (.iadd, 1) := by decide +kernel
theorem d_law_104 : decode code 104 = .ok (.iaload, 1) := by decide +kernel
theorem d_law_105 : decode code 105 = .ok (.aload_n 0, 1) := by decide +kernel
theorem d_law_106 : decode code 106 = .ok (.iload_n 3, 1) := by decide +kernel
theorem d_law_107 : decode code 107 = .ok (.iconst 2, 1) := by decide +kernel
theorem d_law_108 : decode code 108 = .ok (.iadd, 1) := by decide +kernel
theorem d_law_109 : decode code 109 = .ok (.iaload, 1) := by decide +kernel
theorem d_law_110 : decode code 110 = .ok (.aload_n 0, 1) := by decide +kernel
theorem d_law_111 : decode code 111 = .ok (.iload_n 3, 1) := by decide +kernel
theorem d_law_112 : decode code 112 = .ok (.iconst 3, 1) := by decide +kernel
theorem d_law_113 : decode code 113 = .ok (.iadd, 1) := by decide +kernel
theorem d_law_114 : decode code 114 = .ok (.iaload, 1) := by decide +kernel
theorem d_law_115 : decode code 115 = .ok (.invokevirtual 17, 3) := by decide +kernel
theorem d_law_118 : decode code 118 = .ok (.if_icmp .eq 236, 3) := by decide +kernel
theorem d_law_121 : decode code 121 = .ok (.iconst 0, 1) := by decide +kernel
theorem d_law_122 : decode code 122 = .ok (.ireturn, 1) := by decide +kernel
theorem d_law_123 : decode code 123 = .ok (.aload_n 1, 1) := by decide +kernel
theorem d_law_124 : decode code 124 = .ok (.aload_n 0, 1) := by decide +kernel
theorem d_law_125 : decode code 125 = .ok (.iload_n 3, 1) := by decide +kernel
theorem d_law_126 : decode code 126 = .ok (.iconst 1, 1) := by decide +kernel
theorem d_law_127 : decode code 127 = .ok (.iadd, 1) := by decide +kernel
theorem d_law_128 : decode code 128 = .ok (.iaload, 1) := by decide +kernel
theorem d_law_129 : decode code 129 = .ok (.aload_n 0, 1) := by decide +kernel
theorem d_law_130 : decode code 130 = .ok (.iload_n 3, 1) := by decide +kernel
theorem d_law_131 : decode code 131 = .ok (.iconst 2, 1) := by decide +kernel
theorem d_law_132 : decode code 132 = .ok (.iadd, 1) := by decide +kernel
theorem d_law_133 : decode code 133 = .ok (.iaload, 1) := by decide +kernel
theorem d_law_134 : decode code 134 = .ok (.invokevirtual 18, 3) := by decide +kernel
theorem d_law_137 : decode code 137 = .ok (.aload_n 2, 1) := by decide +kernel
theorem d_law_138 : decode code 138 = .ok (.aload_n 0, 1) := by decide +kernel
theorem d_law_139 : decode code 139 = .ok (.iload_n 3, 1) := by decide +kernel
theorem d_law_140 : decode code 140 = .ok (.iconst 1, 1) := by decide +kernel
theorem d_law_141 : decode code 141 = .ok (.iadd, 1) := by decide +kernel
theorem d_law_142 : decode code 142 = .ok (.iaload, 1) := by decide +kernel
theorem d_law_143 : decode code 143 = .ok (.aload_n 0, 1) := by decide +kernel
theorem d_law_144 : decode code 144 = .ok (.iload_n 3, 1) := by decide +kernel
theorem d_law_145 : decode code 145 = .ok (.iconst 2, 1) := by decide +kernel
theorem d_law_146 : decode code 146 = .ok (.iadd, 1) := by decide +kernel
theorem d_law_147 : decode code 147 = .ok (.iaload, 1) := by decide +kernel
theorem d_law_148 : decode code 148 = .ok (.invokevirtual 22, 3) := by decide +kernel
theorem d_law_151 : decode code 151 = .ok (.if_icmp .eq 203, 3) := by decide +kernel
theorem d_law_154 : decode code 154 = .ok (.iconst 0, 1) := by decide +kernel
theorem d_law_155 : decode code 155 = .ok (.ireturn, 1) := by decide +kernel
theorem d_law_156 : decode code 156 = .ok (.aload_n 1, 1) := by decide +kernel
theorem d_law_157 : decode code 157 = .ok (.aload_n 0, 1) := by decide +kernel
theorem d_law_158 : decode code 158 = .ok (.iload_n 3, 1) := by decide +kernel
theorem d_law_159 : decode code 159 = .ok (.iconst 1, 1) := by decide +kernel
theorem d_law_160 : decode code 160 = .ok (.iadd, 1) := by decide +kernel
theorem d_law_161 : decode code 161 = .ok (.iaload, 1) := by decide +kernel
theorem d_law_162 : decode code 162 = .ok (.aload_n 0, 1) := by decide +kernel
theorem d_law_163 : decode code 163 = .ok (.iload_n 3, 1) := by decide +kernel
theorem d_law_164 : decode code 164 = .ok (.iconst 2, 1) := by decide +kernel
theorem d_law_165 : decode code 165 = .ok (.iadd, 1) := by decide +kernel
theorem d_law_166 : decode code 166 = .ok (.iaload, 1) := by decide +kernel
theorem d_law_167 : decode code 167 = .ok (.aload_n 0, 1) := by decide +kernel
theorem d_law_168 : decode code 168 = .ok (.iload_n 3, 1) := by decide +kernel
theorem d_law_169 : decode code 169 = .ok (.iconst 3, 1) := by decide +kernel
theorem d_law_170 : decode code 170 = .ok (.iadd, 1) := by decide +kernel
theorem d_law_171 : decode code 171 = .ok (.iaload, 1) := by decide +kernel
theorem d_law_172 : decode code 172 = .ok (.i2l, 1) := by decide +kernel
theorem d_law_173 : decode code 173 = .ok (.bipush 32, 2) := by decide +kernel
theorem d_law_175 : decode code 175 = .ok (.lshl, 1) := by decide +kernel
theorem d_law_176 : decode code 176 = .ok (.aload_n 0, 1) := by decide +kernel
theorem d_law_177 : decode code 177 = .ok (.iload_n 3, 1) := by decide +kernel
theorem d_law_178 : decode code 178 = .ok (.iconst 4, 1) := by decide +kernel
theorem d_law_179 : decode code 179 = .ok (.iadd, 1) := by decide +kernel
theorem d_law_180 : decode code 180 = .ok (.iaload, 1) := by decide +kernel
theorem d_law_181 : decode code 181 = .ok (.i2l, 1) := by decide +kernel
theorem d_law_182 : decode code 182 = .ok (.ldc2_w 23, 3) := by decide +kernel
theorem d_law_185 : decode code 185 = .ok (.land, 1) := by decide +kernel
theorem d_law_186 : decode code 186 = .ok (.lor, 1) := by decide +kernel
theorem d_law_187 : decode code 187 = .ok (.aload_n 0, 1) := by decide +kernel
theorem d_law_188 : decode code 188 = .ok (.iload_n 3, 1) := by decide +kernel
theorem d_law_189 : decode code 189 = .ok (.iconst 5, 1) := by decide +kernel
theorem d_law_190 : decode code 190 = .ok (.iadd, 1) := by decide +kernel
theorem d_law_191 : decode code 191 = .ok (.iaload, 1) := by decide +kernel
theorem d_law_192 : decode code 192 = .ok (.invokevirtual 25, 3) := by decide +kernel
theorem d_law_195 : decode code 195 = .ok (.aload_n 2, 1) := by decide +kernel
theorem d_law_196 : decode code 196 = .ok (.aload_n 0, 1) := by decide +kernel
theorem d_law_197 : decode code 197 = .ok (.iload_n 3, 1) := by decide +kernel
theorem d_law_198 : decode code 198 = .ok (.iconst 1, 1) := by decide +kernel
theorem d_law_199 : decode code 199 = .ok (.iadd, 1) := by decide +kernel
theorem d_law_200 : decode code 200 = .ok (.iaload, 1) := by decide +kernel
theorem d_law_201 : decode code 201 = .ok (.aload_n 0, 1) := by decide +kernel
theorem d_law_202 : decode code 202 = .ok (.iload_n 3, 1) := by decide +kernel
theorem d_law_203 : decode code 203 = .ok (.iconst 2, 1) := by decide +kernel
theorem d_law_204 : decode code 204 = .ok (.iadd, 1) := by decide +kernel
theorem d_law_205 : decode code 205 = .ok (.iaload, 1) := by decide +kernel
theorem d_law_206 : decode code 206 = .ok (.aload_n 0, 1) := by decide +kernel
theorem d_law_207 : decode code 207 = .ok (.iload_n 3, 1) := by decide +kernel
theorem d_law_208 : decode code 208 = .ok (.iconst 3, 1) := by decide +kernel
theorem d_law_209 : decode code 209 = .ok (.iadd, 1) := by decide +kernel
theorem d_law_210 : decode code 210 = .ok (.iaload, 1) := by decide +kernel
theorem d_law_211 : decode code 211 = .ok (.i2l, 1) := by decide +kernel
theorem d_law_212 : decode code 212 = .ok (.bipush 32, 2) := by decide +kernel
theorem d_law_214 : decode code 214 = .ok (.lshl, 1) := by decide +kernel
theorem d_law_215 : decode code 215 = .ok (.aload_n 0, 1) := by decide +kernel
theorem d_law_216 : decode code 216 = .ok (.iload_n 3, 1) := by decide +kernel
theorem d_law_217 : decode code 217 = .ok (.iconst 4, 1) := by decide +kernel
theorem d_law_218 : decode code 218 = .ok (.iadd, 1) := by decide +kernel
theorem d_law_219 : decode code 219 = .ok (.iaload, 1) := by decide +kernel
theorem d_law_220 : decode code 220 = .ok (.i2l, 1) := by decide +kernel
theorem d_law_221 : decode code 221 = .ok (.ldc2_w 23, 3) := by decide +kernel
theorem d_law_224 : decode code 224 = .ok (.land, 1) := by decide +kernel
theorem d_law_225 : decode code 225 = .ok (.lor, 1) := by decide +kernel
theorem d_law_226 : decode code 226 = .ok (.aload_n 0, 1) := by decide +kernel
theorem d_law_227 : decode code 227 = .ok (.iload_n 3, 1) := by decide +kernel
theorem d_law_228 : decode code 228 = .ok (.iconst 5, 1) := by decide +kernel
theorem d_law_229 : decode code 229 = .ok (.iadd, 1) := by decide +kernel
theorem d_law_230 : decode code 230 = .ok (.iaload, 1) := by decide +kernel
theorem d_law_231 : decode code 231 = .ok (.invokevirtual 29, 3) := by decide +kernel
theorem d_law_234 : decode code 234 = .ok (.if_icmp .eq 120, 3) := by decide +kernel
theorem d_law_237 : decode code 237 = .ok (.iconst 0, 1) := by decide +kernel
theorem d_law_238 : decode code 238 = .ok (.ireturn, 1) := by decide +kernel
theorem d_law_239 : decode code 239 = .ok (.aload_n 1, 1) := by decide +kernel
theorem d_law_240 : decode code 240 = .ok (.aload_n 0, 1) := by decide +kernel
theorem d_law_241 : decode code 241 = .ok (.iload_n 3, 1) := by decide +kernel
theorem d_law_242 : decode code 242 = .ok (.iconst 1, 1) := by decide +kernel
theorem d_law_243 : decode code 243 = .ok (.iadd, 1) := by decide +kernel
theorem d_law_244 : decode code 244 = .ok (.iaload, 1) := by decide +kernel
theorem d_law_245 : decode code 245 = .ok (.aload_n 0, 1) := by decide +kernel
theorem d_law_246 : decode code 246 = .ok (.iload_n 3, 1) := by decide +kernel
theorem d_law_247 : decode code 247 = .ok (.iconst 2, 1) := by decide +kernel
theorem d_law_248 : decode code 248 = .ok (.iadd, 1) := by decide +kernel
theorem d_law_249 : decode code 249 = .ok (.iaload, 1) := by decide +kernel
theorem d_law_250 : decode code 250 = .ok (.invokevirtual 30, 3) := by decide +kernel
theorem d_law_253 : decode code 253 = .ok (.aload_n 2, 1) := by decide +kernel
theorem d_law_254 : decode code 254 = .ok (.aload_n 0, 1) := by decide +kernel
theorem d_law_255 : decode code 255 = .ok (.iload_n 3, 1) := by decide +kernel
theorem d_law_256 : decode code 256 = .ok (.iconst 1, 1) := by decide +kernel
theorem d_law_257 : decode code 257 = .ok (.iadd, 1) := by decide +kernel
theorem d_law_258 : decode code 258 = .ok (.iaload, 1) := by decide +kernel
theorem d_law_259 : decode code 259 = .ok (.aload_n 0, 1) := by decide +kernel
theorem d_law_260 : decode code 260 = .ok (.iload_n 3, 1) := by decide +kernel
theorem d_law_261 : decode code 261 = .ok (.iconst 2, 1) := by decide +kernel
theorem d_law_262 : decode code 262 = .ok (.iadd, 1) := by decide +kernel
theorem d_law_263 : decode code 263 = .ok (.iaload, 1) := by decide +kernel
theorem d_law_264 : decode code 264 = .ok (.invokevirtual 34, 3) := by decide +kernel
theorem d_law_267 : decode code 267 = .ok (.if_icmp .eq 87, 3) := by decide +kernel
theorem d_law_270 : decode code 270 = .ok (.iconst 0, 1) := by decide +kernel
theorem d_law_271 : decode code 271 = .ok (.ireturn, 1) := by decide +kernel
theorem d_law_272 : decode code 272 = .ok (.aload_n 1, 1) := by decide +kernel
theorem d_law_273 : decode code 273 = .ok (.aload_n 0, 1) := by decide +kernel
theorem d_law_274 : decode code 274 = .ok (.iload_n 3, 1) := by decide +kernel
theorem d_law_275 : decode code 275 = .ok (.iconst 1, 1) := by decide +kernel
theorem d_law_276 : decode code 276 = .ok (.iadd, 1) := by decide +kernel
theorem d_law_277 : decode code 277 = .ok (.iaload, 1) := by decide +kernel
theorem d_law_278 : decode code 278 = .ok (.invokevirtual 35, 3) := by decide +kernel
theorem d_law_281 : decode code 281 = .ok (.aload_n 2, 1) := by decide +kernel
theorem d_law_282 : decode code 282 = .ok (.aload_n 0, 1) := by decide +kernel
theorem d_law_283 : decode code 283 = .ok (.iload_n 3, 1) := by decide +kernel
theorem d_law_284 : decode code 284 = .ok (.iconst 1, 1) := by decide +kernel
theorem d_law_285 : decode code 285 = .ok (.iadd, 1) := by decide +kernel
theorem d_law_286 : decode code 286 = .ok (.iaload, 1) := by decide +kernel
theorem d_law_287 : decode code 287 = .ok (.invokevirtual 39, 3) := by decide +kernel
theorem d_law_290 : decode code 290 = .ok (.if_icmp .eq 64, 3) := by decide +kernel
theorem d_law_293 : decode code 293 = .ok (.iconst 0, 1) := by decide +kernel
theorem d_law_294 : decode code 294 = .ok (.ireturn, 1) := by decide +kernel
theorem d_law_295 : decode code 295 = .ok (.aload_n 1, 1) := by decide +kernel
theorem d_law_296 : decode code 296 = .ok (.aload_n 0, 1) := by decide +kernel
theorem d_law_297 : decode code 297 = .ok (.iload_n 3, 1) := by decide +kernel
theorem d_law_298 : decode code 298 = .ok (.iconst 1, 1) := by decide +kernel
theorem d_law_299 : decode code 299 = .ok (.iadd, 1) := by decide +kernel
theorem d_law_300 : decode code 300 = .ok (.iaload, 1) := by decide +kernel
theorem d_law_301 : decode code 301 = .ok (.invokevirtual 40, 3) := by decide +kernel
theorem d_law_304 : decode code 304 = .ok (.aload_n 2, 1) := by decide +kernel
theorem d_law_305 : decode code 305 = .ok (.aload_n 0, 1) := by decide +kernel
theorem d_law_306 : decode code 306 = .ok (.iload_n 3, 1) := by decide +kernel
theorem d_law_307 : decode code 307 = .ok (.iconst 1, 1) := by decide +kernel
theorem d_law_308 : decode code 308 = .ok (.iadd, 1) := by decide +kernel
theorem d_law_309 : decode code 309 = .ok (.iaload, 1) := by decide +kernel
theorem d_law_310 : decode code 310 = .ok (.invokevirtual 43, 3) := by decide +kernel
theorem d_law_313 : decode code 313 = .ok (.if_icmp .eq 41, 3) := by decide +kernel
theorem d_law_316 : decode code 316 = .ok (.iconst 0, 1) := by decide +kernel
theorem d_law_317 : decode code 317 = .ok (.ireturn, 1) := by decide +kernel
theorem d_law_318 : decode code 318 = .ok (.aload_n 1, 1) := by decide +kernel
theorem d_law_319 : decode code 319 = .ok (.aload_n 0, 1) := by decide +kernel
theorem d_law_320 : decode code 320 = .ok (.iload_n 3, 1) := by decide +kernel
theorem d_law_321 : decode code 321 = .ok (.iconst 1, 1) := by decide +kernel
theorem d_law_322 : decode code 322 = .ok (.iadd, 1) := by decide +kernel
theorem d_law_323 : decode code 323 = .ok (.iaload, 1) := by decide +kernel
theorem d_law_324 : decode code 324 = .ok (.invokevirtual 44, 3) := by decide +kernel
theorem d_law_327 : decode code 327 = .ok (.aload_n 2, 1) := by decide +kernel
theorem d_law_328 : decode code 328 = .ok (.aload_n 0, 1) := by decide +kernel
theorem d_law_329 : decode code 329 = .ok (.iload_n 3, 1) := by decide +kernel
theorem d_law_330 : decode code 330 = .ok (.iconst 1, 1) := by decide +kernel
theorem d_law_331 : decode code 331 = .ok (.iadd, 1) := by decide +kernel
theorem d_law_332 : decode code 332 = .ok (.iaload, 1) := by decide +kernel
theorem d_law_333 : decode code 333 = .ok (.invokevirtual 47, 3) := by decide +kernel
theorem d_law_336 : decode code 336 = .ok (.if_icmp .eq 18, 3) := by decide +kernel
theorem d_law_339 : decode code 339 = .ok (.iconst 0, 1) := by decide +kernel
theorem d_law_340 : decode code 340 = .ok (.ireturn, 1) := by decide +kernel
theorem d_law_341 : decode code 341 = .ok (.aload_n 1, 1) := by decide +kernel
theorem d_law_342 : decode code 342 = .ok (.invokevirtual 48, 3) := by decide +kernel
theorem d_law_345 : decode code 345 = .ok (.aload_n 2, 1) := by decide +kernel
theorem d_law_346 : decode code 346 = .ok (.invokevirtual 52, 3) := by decide +kernel
theorem d_law_349 : decode code 349 = .ok (.if_icmp .eq 5, 3) := by decide +kernel
theorem d_law_352 : decode code 352 = .ok (.iconst 0, 1) := by decide +kernel
theorem d_law_353 : decode code 353 = .ok (.ireturn, 1) := by decide +kernel
theorem d_law_354 : decode code 354 = .ok (.iinc 3 6, 3) := by decide +kernel
theorem d_law_357 : decode code 357 = .ok (.goto (-339), 3) := by decide +kernel
theorem d_law_360 : decode code 360 = .ok (.iconst 1, 1) := by decide +kernel
theorem d_law_361 : decode code 361 = .ok (.ireturn, 1) := by decide +kernel
end
section
/-! ===== ints as integers ===== -/
def iI (z : Int) : Int32 := Int32.ofInt z
theorem iI_toInt {a : Int} (h : -2147483648 ≤ a ∧ a < 2147483648) : (iI a).toInt = a := Int32.toInt_ofInt_of_le (by omega) (by omega)
theorem iI_add (a b : Int) : iI a + iI b = iI (a + b) := (Int32.ofInt_add a b).symm
theorem iI_sub (a b : Int) : iI a - iI b = iI (a - b) := (Int32.ofInt_sub a b).symm
theorem iI_mul (a b : Int) : iI a * iI b = iI (a * b) := (Int32.ofInt_mul a b).symm
theorem iI_of (x : Int32) : ∃ z : Int, x = iI z ∧ -2147483648 ≤ z ∧ z < 2147483648 := ⟨x.toInt, (Int32.ofInt_toInt x).symm, by have := x.le_toInt; omega, by have := x.toInt_lt; omega⟩
theorem iI_lt {a b : Int} (ha : -2147483648 ≤ a ∧ a < 2147483648) (hb : -2147483648 ≤ b ∧ b < 2147483648) : iI a < iI b ↔ a < b := by rw [Int32.lt_iff_toInt_lt, iI_toInt ha, iI_toInt hb]
theorem iI_le {a b : Int} (ha : -2147483648 ≤ a ∧ a < 2147483648) (hb : -2147483648 ≤ b ∧ b < 2147483648) : iI a ≤ iI b ↔ a ≤ b := by rw [Int32.le_iff_toInt_le, iI_toInt ha, iI_toInt hb]
theorem iI_eq {a b : Int} (ha : -2147483648 ≤ a ∧ a < 2147483648) (hb : -2147483648 ≤ b ∧ b < 2147483648) : iI a = iI b ↔ a = b := by rw [← Int32.toInt_inj, iI_toInt ha, iI_toInt hb]
theorem iI_cl {k : Nat} (h : k < 2147483648) : (iI (k : Int)).toNatClampNeg = k := by
  show (iI (k : Int)).toInt.toNat = k
  rw [iI_toInt (by omega)]
  omega
theorem iI_in {k n : Nat} (h : k < n) (hn : n < 2147483648) : vp_in (iI (k : Int)) n := by
  refine vp_in_iff.mpr ?_
  rw [iI_toInt (by omega)]
  omega
theorem iI_b {z : Int} (h : -128 ≤ z ∧ z < 128) : (iI z).toInt8.toInt32 = iI z := by
  rw [← Int32.toInt_inj, Int8.toInt_toInt32]
  show (Int32.ofInt z).toInt8.toInt = _
  rw [Int32.toInt8_ofInt, Int8.toInt_ofInt_of_le (by omega) (by omega), iI_toInt (by omega)]
theorem iI_s {z : Int} (h : -32768 ≤ z ∧ z < 32768) : (iI z).toInt16.toInt32 = iI z := by
  rw [← Int32.toInt_inj, Int16.toInt_toInt32]
  show (Int32.ofInt z).toInt16.toInt = _
  rw [Int32.toInt16_ofInt, Int16.toInt_ofInt_of_le (by omega) (by omega), iI_toInt (by omega)]
theorem iI_div2 {z : Int} (h : 0 ≤ z ∧ z < 2147483648) : iI z / iI 2 = iI (z / 2) := by
  rw [← Int32.toInt_inj, Int32.toInt_div_of_ne_right _ _ (by decide), iI_toInt (by omega), iI_toInt (by omega), iI_toInt (by omega)]
  exact Int.tdiv_eq_ediv_of_nonneg h.1
def zf (g : Nat → Int) : Nat → Int32 := fun j => iI (g j)
def uz (g : Nat → Int) (k : Nat) (x : Int) : Nat → Int := fun j => if j = k then x else g j
theorem uz_s {g : Nat → Int} {k : Nat} {x : Int} : uz g k x k = x := by simp [uz]
theorem uz_n {g : Nat → Int} {k j : Nat} {x : Int} (h : j ≠ k) : uz g k x j = g j := by simp [uz, h]
theorem zf_upd (g : Nat → Int) (k : Nat) (x : Int) : upd (zf g) k (iI x) = zf (uz g k x) := by
  funext j
  by_cases h : j = k
  · simp [upd, zf, uz, h]
  · simp [upd, zf, uz, h]
/-! ===== the context, the world ===== -/
abbrev tY (cA : Nat → ClassId) : List (ClassId × FieldType) := [(cA 0, .byte), (cA 1, .int), (cA 2, .short)]
def Cx (p : Program) (s : State) (m : MethodId) (args : Array Value) (c : Code) (cc : ByteArray) (nL : Nat) (own : String) (D : va_G) (cA : Nat → ClassId) : Prop :=
  p.tables.exec = Jvm.exec ∧ c.code = cc ∧ c.maxLocals = nL ∧ s.vm.findClass own = some m.cls ∧ (∀ w ∈ gW, w.before args s = true) ∧ va_K D classes (tY cA) s ∧ NW s
def Wd (D : va_G) (A : Nat → Prop) (H0 : Heap) (ws : va_W) (H : Heap) (locs : List Loc) : Prop := va_P D classes ws H ∧ va_D A ws ∧ va_S A H0 H locs ∧ ∀ q, H0.size ≤ q → A q
def KC (ci : Nat) (C : String) (T : u_T) (N : Nat) (ty : Nat → FieldType) : Prop := classes[ci]? = some (C, T, N) ∧ (∀ w ∈ u_ws C T N, w ∈ gW) ∧ (∀ k, k < N → parseFieldDescriptor (T k).2.2.1 = some (ty k)) ∧ ∀ a, a < N → ∀ b, b < N → a ≠ b → (T a).2.1 ≠ (T b).2.1
theorem k_Tb : KC 0 R_Tb F_Tb 2 t_Tb := ⟨rfl, i_Tb, t_Tb_ok, n_Tb⟩
theorem k_Sy : KC 1 R_Sy F_Sy 3 t_Sy := ⟨rfl, i_Sy, t_Sy_ok, n_Sy⟩
theorem k_Sn : KC 2 R_Sn F_Sn 6 t_Sn := ⟨rfl, i_Sn, t_Sn_ok, n_Sn⟩
theorem k_Ed : KC 3 R_Ed F_Ed 9 t_Ed := ⟨rfl, i_Ed, t_Ed_ok, n_Ed⟩
theorem k_Mo : KC 4 R_Mo F_Mo 21 t_Mo := ⟨rfl, i_Mo, t_Mo_ok, n_Mo⟩
theorem Wd.sub {D : va_G} {A : Nat → Prop} {H0 H : Heap} {ws ws' : va_W} {locs : List Loc} (h : Wd D A H0 ws H locs) (is : List Nat) (hn : va_nd is = true) (h1 : is.map (fun i => ws[i]?) = ws'.map some) (h2 : is.filterMap (fun i => ws[i]?) = ws') : Wd D A H0 ws' H locs := ⟨h.1.sub is h2, h.2.1.sub is hn h1, h.2.2⟩
/-- a method's start: its world, anywhere -/
def zP (av : List Value) (D : va_G) (cA : Nat → ClassId) (ws : va_W) (sz : Nat) : Array Value → State → Prop := va_Pc av (fun U => U.heap.size = sz ∧ va_P D classes ws U.heap ∧ va_K D classes (tY cA) U ∧ va_D (fun _ => True) ws ∧ NW U)
/-- its end: nothing written, an int answered -/
def Qro (post : Int → Prop) : Array Value → State → Outcome → State → Prop := fun _ st oc t => ∃ z : Int, oc = .returned (some (.int (iI z))) ∧ post z ∧ t.heap = st.heap
def zB {S : Type} (w : S → va_W) (D : va_G) (ws : va_W) (sz : Nat) : S → State → Prop := fun u t => va_P D classes (w u) t.heap ∧ va_D (va_A ws sz) (w u)
def zQv {S : Type} (post : S → Prop) (w : S → va_W) (D : va_G) (ws : va_W) (sz : Nat) : Array Value → State → Outcome → State → Prop := va_Qv post (zB w D ws sz) (va_A ws sz)
def zQi {S : Type} (post : Int → S → Prop) (w : S → va_W) (D : va_G) (ws : va_W) (sz : Nat) : Array Value → State → Outcome → State → Prop := va_Qi (fun r u => ∃ z : Int, r = iI z ∧ post z u) (zB w D ws sz) (va_A ws sz)
abbrev cW (y : MethodName) (b : ByteArray) (maxL : Nat) (rt : Option FieldType) : List Cond := .code y b maxL rt :: gW
abbrev rM (f lo : Nat) : Room := { frames := f, cells := 0, slots := 0, locals := lo }
theorem zP_blind {av : List Value} {D : va_G} {cA : Nat → ClassId} {ws : va_W} {sz : Nat} : FrameBlind (zP av D cA ws sz) := fun a U g mk q => by
  obtain ⟨q0, q1, qP, qK, qD, qN⟩ := q
  exact ⟨q0, q1, qP, va_K.moved (u := U) (U := U.calling g mk a) (Vm.Alike.refl U.vm) qK, qD, NW.same (u := U) rfl qN⟩
theorem gi_cW {y : MethodName} {b : ByteArray} {maxL : Nat} {rt : Option FieldType} (h : Cond.code y b maxL rt ∈ gW) : GoodIn gW (cW y b maxL rt) := fun w hw => by
  rcases List.mem_cons.mp hw with rfl | hw
  · exact ⟨h, gW_good h⟩
  · exact ⟨hw, gW_good hw⟩
theorem gi_V {own : String} {idx : Nat} {C : String} {y : MethodName} {b : ByteArray} {maxL : Nat} {rt : Option FieldType} {n : Nat} (v : vW own idx C y b maxL rt n) : GoodIn gW (wsV own idx C y (cW y b maxL rt)) := fun w hw => by
  obtain ⟨v1, v2, v3, v4, v5, -⟩ := v
  unfold wsV at hw
  rcases List.mem_append.mp hw with hw | hw
  · simp only [List.mem_cons, List.not_mem_nil, or_false] at hw
    rcases hw with rfl | rfl | rfl | rfl
    · exact ⟨v1, gW_good v1⟩
    · exact ⟨v2, gW_good v2⟩
    · exact ⟨v3, gW_good v3⟩
    · exact ⟨v4, gW_good v4⟩
  · exact gi_cW v5 w hw
theorem gi_S {own : String} {idx : Nat} {y : MethodName} {b : ByteArray} {maxL : Nat} {rt : Option FieldType} {n : Nat} (v : vS own idx y b maxL rt n) : GoodIn gW (wsS own idx y (cW y b maxL rt)) := fun w hw => by
  obtain ⟨v1, v2, v3, v4, -⟩ := v
  unfold wsS at hw
  rcases List.mem_append.mp hw with hw | hw
  · simp only [List.mem_cons, List.not_mem_nil, or_false] at hw
    rcases hw with rfl | rfl | rfl
    · exact ⟨v1, gW_good v1⟩
    · exact ⟨v2, gW_good v2⟩
    · exact ⟨v3, gW_good v3⟩
  · exact gi_cW v4 w hw
section ZR
variable {p : Program} {l : Launch} {e : Env} {R : Room} {s : State} {m : MethodId} {args : Array Value} {below : List Frame} {meth : Method} {c : Code} {H H0 : Heap} {locs : List Loc} {cells slots : Nat} {Q : State → Prop}
variable {cc : ByteArray} {nL : Nat} {own : String} {pc : Nat} {ls : Array Slot} {rest st0 : List Value} {D : va_G} {cA : Nat → ClassId} {A : Nat → Prop} {ws ws' : va_W} {a b r z : Int}
theorem z_as {x : Int} (h : x = z) (k : W p l e R s m args below meth c H locs cells slots Q (F0 m pc ls (.int (iI z) :: rest))) : W p l e R s m args below meth c H locs cells slots Q (F0 m pc ls (.int (iI x) :: rest)) := h ▸ k
theorem z_iconst (X : Cx p s m args c cc nL own D cA) {n : Int} (d : decode cc pc = .ok (.iconst n, 1)) (k : W p l e R s m args below meth c H locs cells slots Q (F0 m (pc + 1) ls (.int (iI n) :: rest))) : W p l e R s m args below meth c H locs cells slots Q (F0 m pc ls rest) := lv_iconst X.1 X.2.1 d rfl k
theorem z_bipush (X : Cx p s m args c cc nL own D cA) {n : Int} (d : decode cc pc = .ok (.bipush n, 2)) (hv : (Int8.ofInt n).toInt32 = iI n) (k : W p l e R s m args below meth c H locs cells slots Q (F0 m (pc + 2) ls (.int (iI n) :: rest))) : W p l e R s m args below meth c H locs cells slots Q (F0 m pc ls rest) := lv_bipush X.1 X.2.1 d hv k
theorem z_sipush (X : Cx p s m args c cc nL own D cA) {n : Int} (d : decode cc pc = .ok (.sipush n, 3)) (hv : (Int16.ofInt n).toInt32 = iI n) (k : W p l e R s m args below meth c H locs cells slots Q (F0 m (pc + 3) ls (.int (iI n) :: rest))) : W p l e R s m args below meth c H locs cells slots Q (F0 m pc ls rest) := lv_sipush X.1 X.2.1 d hv k
theorem z_iadd (X : Cx p s m args c cc nL own D cA) (d : decode cc pc = .ok (.iadd, 1)) (hr : a + b = r) (k : W p l e R s m args below meth c H locs cells slots Q (F0 m (pc + 1) ls (.int (iI r) :: rest))) : W p l e R s m args below meth c H locs cells slots Q (F0 m pc ls (.int (iI b) :: .int (iI a) :: rest)) := lv_iadd X.1 X.2.1 d (by rw [iI_add, hr]; exact k)
theorem z_isub (X : Cx p s m args c cc nL own D cA) (d : decode cc pc = .ok (.isub, 1)) (hr : a - b = r) (k : W p l e R s m args below meth c H locs cells slots Q (F0 m (pc + 1) ls (.int (iI r) :: rest))) : W p l e R s m args below meth c H locs cells slots Q (F0 m pc ls (.int (iI b) :: .int (iI a) :: rest)) := lv_isub X.1 X.2.1 d (by rw [iI_sub, hr]; exact k)
theorem z_imul (X : Cx p s m args c cc nL own D cA) (d : decode cc pc = .ok (.imul, 1)) (hr : a * b = r) (k : W p l e R s m args below meth c H locs cells slots Q (F0 m (pc + 1) ls (.int (iI r) :: rest))) : W p l e R s m args below meth c H locs cells slots Q (F0 m pc ls (.int (iI b) :: .int (iI a) :: rest)) := lv_imul X.1 X.2.1 d (by rw [iI_mul, hr]; exact k)
theorem z_idiv2 (X : Cx p s m args c cc nL own D cA) (d : decode cc pc = .ok (.idiv, 1)) (ha : 0 ≤ a ∧ a < 2147483648) (hr : a / 2 = r) (k : W p l e R s m args below meth c H locs cells slots Q (F0 m (pc + 1) ls (.int (iI r) :: rest))) : W p l e R s m args below meth c H locs cells slots Q (F0 m pc ls (.int (iI 2) :: .int (iI a) :: rest)) := lv_idiv X.1 X.2.1 d (by decide) (by rw [iI_div2 ha, hr]; exact k)
theorem z_i2b (X : Cx p s m args c cc nL own D cA) (d : decode cc pc = .ok (.i2b, 1)) (ha : -128 ≤ a ∧ a < 128) (k : W p l e R s m args below meth c H locs cells slots Q (F0 m (pc + 1) ls (.int (iI a) :: rest))) : W p l e R s m args below meth c H locs cells slots Q (F0 m pc ls (.int (iI a) :: rest)) := lv_i2b X.1 X.2.1 d (iI_b ha) k
theorem z_i2s (X : Cx p s m args c cc nL own D cA) (d : decode cc pc = .ok (.i2s, 1)) (ha : -32768 ≤ a ∧ a < 32768) (k : W p l e R s m args below meth c H locs cells slots Q (F0 m (pc + 1) ls (.int (iI a) :: rest))) : W p l e R s m args below meth c H locs cells slots Q (F0 m pc ls (.int (iI a) :: rest)) := lv_i2s X.1 X.2.1 d (iI_s ha) k
theorem z_istore_n (X : Cx p s m args c cc nL own D cA) {k : Fin 4} {i : Nat} {lv lv' : List (Nat × Value)} (d : decode cc pc = .ok (.istore_n k, 1)) (hi : (k : Nat) = i) (h : lv_has ls nL lv) (hn : i < nL) (hl : (i, Value.int (iI a)) :: lv.filter (fun q => !(q.1 == i) && !(q.1 + 1 == i && q.2.category == 2)) = lv') (kk : ∀ ls' : Array Slot, lv_has ls' nL lv' → W p l e R s m args below meth c H locs cells slots Q (F0 m (pc + 1) ls' rest)) : W p l e R s m args below meth c H locs cells slots Q (F0 m pc ls (.int (iI a) :: rest)) := lv_istore_n X.1 X.2.1 d hi h hn hl kk
theorem z_istore (X : Cx p s m args c cc nL own D cA) {i : Nat} {lv lv' : List (Nat × Value)} (d : decode cc pc = .ok (.istore i, 2)) (h : lv_has ls nL lv) (hn : i < nL) (hl : (i, Value.int (iI a)) :: lv.filter (fun q => !(q.1 == i) && !(q.1 + 1 == i && q.2.category == 2)) = lv') (kk : ∀ ls' : Array Slot, lv_has ls' nL lv' → W p l e R s m args below meth c H locs cells slots Q (F0 m (pc + 2) ls' rest)) : W p l e R s m args below meth c H locs cells slots Q (F0 m pc ls (.int (iI a) :: rest)) := lv_istore X.1 X.2.1 d h hn hl kk
theorem z_iinc (X : Cx p s m args c cc nL own D cA) {i k : Nat} {n : Int} {lv lv' : List (Nat × Value)} (d : decode cc pc = .ok (.iinc i n, 3)) (h : lv_has ls nL lv) (hk : lv[k]? = some (i, .int (iI a))) (hr : a + n = r) (hn : i < nL) (hl : (i, Value.int (iI r)) :: lv.filter (fun q => !(q.1 == i) && !(q.1 + 1 == i && q.2.category == 2)) = lv') (kk : ∀ ls' : Array Slot, lv_has ls' nL lv' → W p l e R s m args below meth c H locs cells slots Q (F0 m (pc + 3) ls' rest)) : W p l e R s m args below meth c H locs cells slots Q (F0 m pc ls rest) := lv_iinc X.1 X.2.1 d h hk (v := iI r) (by rw [← hr]; exact iI_add a n) hn hl kk
theorem z_goto (X : Cx p s m args c cc nL own D cA) {off : Int} {tgt : Nat} (d : decode cc pc = .ok (.goto off, 3)) (ht : (pc : Int) + off = (tgt : Int)) (k : W p l e R s m args below meth c H locs cells slots Q (F0 m tgt ls rest)) : W p l e R s m args below meth c H locs cells slots Q (F0 m pc ls rest) := lv_goto X.1 X.2.1 d ht k
theorem z_icmp_eq (X : Cx p s m args c cc nL own D cA) {off : Int} {tgt : Nat} (d : decode cc pc = .ok (.if_icmp .eq off, 3)) (ht : (pc : Int) + off = (tgt : Int)) (ha : -2147483648 ≤ a ∧ a < 2147483648) (hb : -2147483648 ≤ b ∧ b < 2147483648) (kt : a = b → W p l e R s m args below meth c H locs cells slots Q (F0 m tgt ls rest)) (kf : ¬ (a = b) → W p l e R s m args below meth c H locs cells slots Q (F0 m (pc + 3) ls rest)) : W p l e R s m args below meth c H locs cells slots Q (F0 m pc ls (.int (iI b) :: .int (iI a) :: rest)) := lv_icmp_eq X.1 X.2.1 d ht (fun h => kt ((iI_eq ha hb).mp h)) (fun h => kf (fun q => h ((iI_eq ha hb).mpr q)))
theorem z_if_eq (X : Cx p s m args c cc nL own D cA) {off : Int} {tgt : Nat} (d : decode cc pc = .ok (.ifCond .eq off, 3)) (ht : (pc : Int) + off = (tgt : Int)) (ha : -2147483648 ≤ a ∧ a < 2147483648) (kt : a = 0 → W p l e R s m args below meth c H locs cells slots Q (F0 m tgt ls rest)) (kf : ¬ (a = 0) → W p l e R s m args below meth c H locs cells slots Q (F0 m (pc + 3) ls rest)) : W p l e R s m args below meth c H locs cells slots Q (F0 m pc ls (.int (iI a) :: rest)) := lv_if_eq X.1 X.2.1 d ht (fun h => kt ((iI_eq ha (show -2147483648 ≤ (0:Int) ∧ (0:Int) < 2147483648 by omega)).mp h)) (fun h => kf (fun q => h ((iI_eq ha (show -2147483648 ≤ (0:Int) ∧ (0:Int) < 2147483648 by omega)).mpr q)))
theorem z_icmp_lt (X : Cx p s m args c cc nL own D cA) {off : Int} {tgt : Nat} (d : decode cc pc = .ok (.if_icmp .lt off, 3)) (ht : (pc : Int) + off = (tgt : Int)) (ha : -2147483648 ≤ a ∧ a < 2147483648) (hb : -2147483648 ≤ b ∧ b < 2147483648) (kt : a < b → W p l e R s m args below meth c H locs cells slots Q (F0 m tgt ls rest)) (kf : ¬ (a < b) → W p l e R s m args below meth c H locs cells slots Q (F0 m (pc + 3) ls rest)) : W p l e R s m args below meth c H locs cells slots Q (F0 m pc ls (.int (iI b) :: .int (iI a) :: rest)) := lv_icmp_lt X.1 X.2.1 d ht (fun h => kt ((iI_lt ha hb).mp h)) (fun h => kf (fun q => h ((iI_lt ha hb).mpr q)))
theorem z_if_lt (X : Cx p s m args c cc nL own D cA) {off : Int} {tgt : Nat} (d : decode cc pc = .ok (.ifCond .lt off, 3)) (ht : (pc : Int) + off = (tgt : Int)) (ha : -2147483648 ≤ a ∧ a < 2147483648) (kt : a < 0 → W p l e R s m args below meth c H locs cells slots Q (F0 m tgt ls rest)) (kf : ¬ (a < 0) → W p l e R s m args below meth c H locs cells slots Q (F0 m (pc + 3) ls rest)) : W p l e R s m args below meth c H locs cells slots Q (F0 m pc ls (.int (iI a) :: rest)) := lv_if_lt X.1 X.2.1 d ht (fun h => kt ((iI_lt ha (show -2147483648 ≤ (0:Int) ∧ (0:Int) < 2147483648 by omega)).mp h)) (fun h => kf (fun q => h ((iI_lt ha (show -2147483648 ≤ (0:Int) ∧ (0:Int) < 2147483648 by omega)).mpr q)))
theorem z_icmp_ge (X : Cx p s m args c cc nL own D cA) {off : Int} {tgt : Nat} (d : decode cc pc = .ok (.if_icmp .ge off, 3)) (ht : (pc : Int) + off = (tgt : Int)) (ha : -2147483648 ≤ a ∧ a < 2147483648) (hb : -2147483648 ≤ b ∧ b < 2147483648) (kt : b ≤ a → W p l e R s m args below meth c H locs cells slots Q (F0 m tgt ls rest)) (kf : ¬ (b ≤ a) → W p l e R s m args below meth c H locs cells slots Q (F0 m (pc + 3) ls rest)) : W p l e R s m args below meth c H locs cells slots Q (F0 m pc ls (.int (iI b) :: .int (iI a) :: rest)) := lv_icmp_ge X.1 X.2.1 d ht (fun h => kt ((iI_le hb ha).mp h)) (fun h => kf (fun q => h ((iI_le hb ha).mpr q)))
theorem z_if_ge (X : Cx p s m args c cc nL own D cA) {off : Int} {tgt : Nat} (d : decode cc pc = .ok (.ifCond .ge off, 3)) (ht : (pc : Int) + off = (tgt : Int)) (ha : -2147483648 ≤ a ∧ a < 2147483648) (kt : 0 ≤ a → W p l e R s m args below meth c H locs cells slots Q (F0 m tgt ls rest)) (kf : ¬ (0 ≤ a) → W p l e R s m args below meth c H locs cells slots Q (F0 m (pc + 3) ls rest)) : W p l e R s m args below meth c H locs cells slots Q (F0 m pc ls (.int (iI a) :: rest)) := lv_if_ge X.1 X.2.1 d ht (fun h => kt ((iI_le (show -2147483648 ≤ (0:Int) ∧ (0:Int) < 2147483648 by omega) ha).mp h)) (fun h => kf (fun q => h ((iI_le (show -2147483648 ≤ (0:Int) ∧ (0:Int) < 2147483648 by omega) ha).mpr q)))
theorem z_icmp_gt (X : Cx p s m args c cc nL own D cA) {off : Int} {tgt : Nat} (d : decode cc pc = .ok (.if_icmp .gt off, 3)) (ht : (pc : Int) + off = (tgt : Int)) (ha : -2147483648 ≤ a ∧ a < 2147483648) (hb : -2147483648 ≤ b ∧ b < 2147483648) (kt : b < a → W p l e R s m args below meth c H locs cells slots Q (F0 m tgt ls rest)) (kf : ¬ (b < a) → W p l e R s m args below meth c H locs cells slots Q (F0 m (pc + 3) ls rest)) : W p l e R s m args below meth c H locs cells slots Q (F0 m pc ls (.int (iI b) :: .int (iI a) :: rest)) := lv_icmp_gt X.1 X.2.1 d ht (fun h => kt ((iI_lt hb ha).mp h)) (fun h => kf (fun q => h ((iI_lt hb ha).mpr q)))
theorem z_if_gt (X : Cx p s m args c cc nL own D cA) {off : Int} {tgt : Nat} (d : decode cc pc = .ok (.ifCond .gt off, 3)) (ht : (pc : Int) + off = (tgt : Int)) (ha : -2147483648 ≤ a ∧ a < 2147483648) (kt : 0 < a → W p l e R s m args below meth c H locs cells slots Q (F0 m tgt ls rest)) (kf : ¬ (0 < a) → W p l e R s m args below meth c H locs cells slots Q (F0 m (pc + 3) ls rest)) : W p l e R s m args below meth c H locs cells slots Q (F0 m pc ls (.int (iI a) :: rest)) := lv_if_gt X.1 X.2.1 d ht (fun h => kt ((iI_lt (show -2147483648 ≤ (0:Int) ∧ (0:Int) < 2147483648 by omega) ha).mp h)) (fun h => kf (fun q => h ((iI_lt (show -2147483648 ≤ (0:Int) ∧ (0:Int) < 2147483648 by omega) ha).mpr q)))
theorem z_icmp_le (X : Cx p s m args c cc nL own D cA) {off : Int} {tgt : Nat} (d : decode cc pc = .ok (.if_icmp .le off, 3)) (ht : (pc : Int) + off = (tgt : Int)) (ha : -2147483648 ≤ a ∧ a < 2147483648) (hb : -2147483648 ≤ b ∧ b < 2147483648) (kt : a ≤ b → W p l e R s m args below meth c H locs cells slots Q (F0 m tgt ls rest)) (kf : ¬ (a ≤ b) → W p l e R s m args below meth c H locs cells slots Q (F0 m (pc + 3) ls rest)) : W p l e R s m args below meth c H locs cells slots Q (F0 m pc ls (.int (iI b) :: .int (iI a) :: rest)) := lv_icmp_le X.1 X.2.1 d ht (fun h => kt ((iI_le ha hb).mp h)) (fun h => kf (fun q => h ((iI_le ha hb).mpr q)))
theorem z_if_le (X : Cx p s m args c cc nL own D cA) {off : Int} {tgt : Nat} (d : decode cc pc = .ok (.ifCond .le off, 3)) (ht : (pc : Int) + off = (tgt : Int)) (ha : -2147483648 ≤ a ∧ a < 2147483648) (kt : a ≤ 0 → W p l e R s m args below meth c H locs cells slots Q (F0 m tgt ls rest)) (kf : ¬ (a ≤ 0) → W p l e R s m args below meth c H locs cells slots Q (F0 m (pc + 3) ls rest)) : W p l e R s m args below meth c H locs cells slots Q (F0 m pc ls (.int (iI a) :: rest)) := lv_if_le X.1 X.2.1 d ht (fun h => kt ((iI_le ha (show -2147483648 ≤ (0:Int) ∧ (0:Int) < 2147483648 by omega)).mp h)) (fun h => kf (fun q => h ((iI_le ha (show -2147483648 ≤ (0:Int) ∧ (0:Int) < 2147483648 by omega)).mpr q)))
theorem z_icmp_ne (X : Cx p s m args c cc nL own D cA) {off : Int} {tgt : Nat} (d : decode cc pc = .ok (.if_icmp .ne off, 3)) (ht : (pc : Int) + off = (tgt : Int)) (ha : -2147483648 ≤ a ∧ a < 2147483648) (hb : -2147483648 ≤ b ∧ b < 2147483648) (kt : ¬ a = b → W p l e R s m args below meth c H locs cells slots Q (F0 m tgt ls rest)) (kf : a = b → W p l e R s m args below meth c H locs cells slots Q (F0 m (pc + 3) ls rest)) : W p l e R s m args below meth c H locs cells slots Q (F0 m pc ls (.int (iI b) :: .int (iI a) :: rest)) := lv_icmp_ne X.1 X.2.1 d ht (fun h => kt (fun q => h ((iI_eq ha hb).mpr q))) (fun h => kf ((iI_eq ha hb).mp h))
theorem z_if_ne (X : Cx p s m args c cc nL own D cA) {off : Int} {tgt : Nat} (d : decode cc pc = .ok (.ifCond .ne off, 3)) (ht : (pc : Int) + off = (tgt : Int)) (ha : -2147483648 ≤ a ∧ a < 2147483648) (kt : ¬ a = 0 → W p l e R s m args below meth c H locs cells slots Q (F0 m tgt ls rest)) (kf : a = 0 → W p l e R s m args below meth c H locs cells slots Q (F0 m (pc + 3) ls rest)) : W p l e R s m args below meth c H locs cells slots Q (F0 m pc ls (.int (iI a) :: rest)) := lv_if_ne X.1 X.2.1 d ht (fun h => kt (fun q => h ((iI_eq ha (show -2147483648 ≤ (0:Int) ∧ (0:Int) < 2147483648 by omega)).mpr q))) (fun h => kf ((iI_eq ha (show -2147483648 ≤ (0:Int) ∧ (0:Int) < 2147483648 by omega)).mp h))
theorem z_iald (X : Cx p s m args c cc nL own D cA) (hw : Wd D A H0 ws H locs) (q0 : Nat) {q n : Nat} {g : Nat → Int} (he : ws[q0]? = some (q, .inl (cA 1, n, .inl (zf g)))) (k : Nat) (hz : z = k) (hk : k < n) (hn : n < 2147483648) (d : decode cc pc = .ok (.iaload, 1)) (kk : W p l e R s m args below meth c H locs cells slots Q (F0 m (pc + 1) ls (.int (iI (g k)) :: rest))) : W p l e R s m args below meth c H locs cells slots Q (F0 m pc ls (.int (iI z) :: .ref q :: rest)) := by
  subst hz
  refine va_iald X.1 X.2.1 X.2.2.2.2.2.1 hw.1 q0 1 he rfl (iI_in hk hn) d ?_
  rw [iI_cl (by omega)]
  exact kk
theorem z_bald (X : Cx p s m args c cc nL own D cA) (hw : Wd D A H0 ws H locs) (q0 : Nat) {q n : Nat} {g : Nat → Int} (he : ws[q0]? = some (q, .inl (cA 0, n, .inl (zf g)))) (k : Nat) (hz : z = k) (hk : k < n) (hn : n < 2147483648) (d : decode cc pc = .ok (.baload, 1)) (kk : W p l e R s m args below meth c H locs cells slots Q (F0 m (pc + 1) ls (.int (iI (g k)) :: rest))) : W p l e R s m args below meth c H locs cells slots Q (F0 m pc ls (.int (iI z) :: .ref q :: rest)) := by
  subst hz
  refine va_bald X.1 X.2.1 X.2.2.2.2.2.1 hw.1 q0 0 he rfl (iI_in hk hn) d ?_
  rw [iI_cl (by omega)]
  exact kk
theorem z_sald (X : Cx p s m args c cc nL own D cA) (hw : Wd D A H0 ws H locs) (q0 : Nat) {q n : Nat} {g : Nat → Int} (he : ws[q0]? = some (q, .inl (cA 2, n, .inl (zf g)))) (k : Nat) (hz : z = k) (hk : k < n) (hn : n < 2147483648) (d : decode cc pc = .ok (.saload, 1)) (kk : W p l e R s m args below meth c H locs cells slots Q (F0 m (pc + 1) ls (.int (iI (g k)) :: rest))) : W p l e R s m args below meth c H locs cells slots Q (F0 m pc ls (.int (iI z) :: .ref q :: rest)) := by
  subst hz
  refine va_sald X.1 X.2.1 X.2.2.2.2.2.1 hw.1 q0 2 he rfl (iI_in hk hn) d ?_
  rw [iI_cl (by omega)]
  exact kk
theorem z_iast (X : Cx p s m args c cc nL own D cA) (hw : Wd D A H0 ws H locs) (q0 : Nat) {q n : Nat} {g : Nat → Int} (he : ws[q0]? = some (q, .inl (cA 1, n, .inl (zf g)))) (k : Nat) (hz : z = k) (hk : k < n) (hn : n < 2147483648) (d : decode cc pc = .ok (.iastore, 1)) (hset : ws.set q0 (q, .inl (cA 1, n, .inl (zf (uz g k b)))) = ws') (kk : ∀ (H1 : Heap) (locs1 : List Loc), Wd D A H0 ws' H1 locs1 → W p l e R s m args below meth c H1 locs1 cells slots Q (F0 m (pc + 1) ls rest)) : W p l e R s m args below meth c H locs cells slots Q (F0 m pc ls (.int (iI b) :: .int (iI z) :: .ref q :: rest)) := by
  subst hz
  refine va_iast X.1 X.2.1 X.2.2.2.2.2.1 hw.1 hw.2.1 hw.2.2.1 q0 1 he rfl (iI_in hk hn) d (fun H1 locs1 hP hD hS => ?_)
  refine kk H1 locs1 ?_
  rw [iI_cl (by omega), zf_upd, hset] at hP hD
  exact ⟨hP, hD, hS, hw.2.2.2⟩
theorem z_bast (X : Cx p s m args c cc nL own D cA) (hw : Wd D A H0 ws H locs) (q0 : Nat) {q n : Nat} {g : Nat → Int} (he : ws[q0]? = some (q, .inl (cA 0, n, .inl (zf g)))) (k : Nat) (hz : z = k) (hk : k < n) (hn : n < 2147483648) (hx : -128 ≤ b ∧ b < 128) (d : decode cc pc = .ok (.bastore, 1)) (hset : ws.set q0 (q, .inl (cA 0, n, .inl (zf (uz g k b)))) = ws') (kk : ∀ (H1 : Heap) (locs1 : List Loc), Wd D A H0 ws' H1 locs1 → W p l e R s m args below meth c H1 locs1 cells slots Q (F0 m (pc + 1) ls rest)) : W p l e R s m args below meth c H locs cells slots Q (F0 m pc ls (.int (iI b) :: .int (iI z) :: .ref q :: rest)) := by
  subst hz
  refine va_bast X.1 X.2.1 X.2.2.2.2.2.1 hw.1 hw.2.1 hw.2.2.1 q0 0 he rfl (iI_in hk hn) d (fun H1 locs1 hP hD hS => ?_)
  refine kk H1 locs1 ?_
  rw [iI_cl (by omega), (vp_nar_byte _).trans (iI_b hx), zf_upd, hset] at hP hD
  exact ⟨hP, hD, hS, hw.2.2.2⟩
theorem z_sast (X : Cx p s m args c cc nL own D cA) (hw : Wd D A H0 ws H locs) (q0 : Nat) {q n : Nat} {g : Nat → Int} (he : ws[q0]? = some (q, .inl (cA 2, n, .inl (zf g)))) (k : Nat) (hz : z = k) (hk : k < n) (hn : n < 2147483648) (hx : -32768 ≤ b ∧ b < 32768) (d : decode cc pc = .ok (.sastore, 1)) (hset : ws.set q0 (q, .inl (cA 2, n, .inl (zf (uz g k b)))) = ws') (kk : ∀ (H1 : Heap) (locs1 : List Loc), Wd D A H0 ws' H1 locs1 → W p l e R s m args below meth c H1 locs1 cells slots Q (F0 m (pc + 1) ls rest)) : W p l e R s m args below meth c H locs cells slots Q (F0 m pc ls (.int (iI b) :: .int (iI z) :: .ref q :: rest)) := by
  subst hz
  refine va_sast X.1 X.2.1 X.2.2.2.2.2.1 hw.1 hw.2.1 hw.2.2.1 q0 2 he rfl (iI_in hk hn) d (fun H1 locs1 hP hD hS => ?_)
  refine kk H1 locs1 ?_
  rw [iI_cl (by omega), (vp_nar_short _).trans (iI_s hx), zf_upd, hset] at hP hD
  exact ⟨hP, hD, hS, hw.2.2.2⟩
theorem z_alen (X : Cx p s m args c cc nL own D cA) (hw : Wd D A H0 ws H locs) (q0 t0 : Nat) {q n : Nat} {f : Nat → Int32} {k : ClassId} {ty : FieldType} (he : ws[q0]? = some (q, .inl (k, n, .inl f))) (ht : (tY cA)[t0]? = some (k, ty)) (d : decode cc pc = .ok (.arraylength, 1)) (kk : W p l e R s m args below meth c H locs cells slots Q (F0 m (pc + 1) ls (.int (iI n) :: rest))) : W p l e R s m args below meth c H locs cells slots Q (F0 m pc ls (.ref q :: rest)) := va_alen X.1 X.2.1 X.2.2.2.2.2.1 hw.1 q0 t0 he ht (v := iI n) rfl d kk
theorem z_get (X : Cx p s m args c cc nL own D cA) (hw : Wd D A H0 ws H locs) {ci : Nat} {C : String} {T : u_T} {N : Nat} {ty : Nat → FieldType} (kc : KC ci C T N ty) (q0 : Nat) {q : Nat} {fs : List Value} (he : ws[q0]? = some (q, .inr (ci, fs))) (k : Nat) (hk : k < N) {v : Value} (hv : fs[k]? = some v) {idx : Nat} {ref : String} (hlink : Cond.fieldLink own idx ref (T k).2.1 (T k).2.2.1 ∈ gW) (hs : (T k).1 = ref) (d : decode cc pc = .ok (.getfield idx, 3)) (kk : W p l e R s m args below meth c H locs cells slots Q (F0 m (pc + 3) ls (v :: rest))) : W p l e R s m args below meth c H locs cells slots Q (F0 m pc ls (.ref q :: rest)) := by
  subst hs
  exact va_get X.1 X.2.1 X.2.2.2.2.1 kc.2.1 X.2.2.2.1 X.2.2.2.2.2.1 hw.1 q0 he kc.1 k hk (X.2.2.2.2.1 _ hlink) (fun _ h9 => h9) hv d kk
theorem z_getN (X : Cx p s m args c cc nL R_Ed D cA) (hw : Wd D A H0 ws H locs) {ci : Nat} {C : String} {T : u_T} {N : Nat} {ty : Nat → FieldType} (kc : KC ci C T N ty) (q0 : Nat) {q : Nat} {fs : List Value} (he : ws[q0]? = some (q, .inr (ci, fs))) (k : Nat) (hk : k < N) {v : Value} (hv : fs[k]? = some v) {idx : Nat} {ref : String} (hlink : (Cond.fieldLinkNest R_Ed idx ref (T k).2.1 (T k).2.2.1 R_Ed).before args s = true) (hs : (T k).1 = ref) (d : decode cc pc = .ok (.getfield idx, 3)) (kk : W p l e R s m args below meth c H locs cells slots Q (F0 m (pc + 3) ls (v :: rest))) : W p l e R s m args below meth c H locs cells slots Q (F0 m pc ls (.ref q :: rest)) := by
  subst hs
  exact va_getN X.1 X.2.1 X.2.2.2.2.1 kc.2.1 X.2.2.2.1 X.2.2.2.2.2.1 hw.1 q0 he kc.1 k hk hlink (fun _ h9 => h9) hv d kk
theorem z_put (X : Cx p s m args c cc nL own D cA) (hw : Wd D A H0 ws H locs) {ci : Nat} {C : String} {T : u_T} {N : Nat} {ty : Nat → FieldType} (kc : KC ci C T N ty) (q0 : Nat) {q : Nat} {fs : List Value} (he : ws[q0]? = some (q, .inr (ci, fs))) (k : Nat) (hk : k < N) (hfin : (T k).2.2.2 = false) (hty : ty k = .int) (hl : k < fs.length) {idx : Nat} {ref : String} (hlink : Cond.fieldLink own idx ref (T k).2.1 (T k).2.2.1 ∈ gW) (hs : (T k).1 = ref) (d : decode cc pc = .ok (.putfield idx, 3)) (hset : ws.set q0 (q, .inr (ci, fs.set k (.int (iI a)))) = ws') (kk : ∀ (H1 : Heap) (locs1 : List Loc), Wd D A H0 ws' H1 locs1 → W p l e R s m args below meth c H1 locs1 cells slots Q (F0 m (pc + 3) ls rest)) : W p l e R s m args below meth c H locs cells slots Q (F0 m pc ls (.int (iI a) :: .ref q :: rest)) := by
  subst hs
  refine va_put X.1 X.2.1 X.2.2.2.2.1 kc.2.1 ty kc.2.2.1 kc.2.2.2 X.2.2.2.1 X.2.2.2.2.2.1 hw.1 hw.2.1 hw.2.2.1 q0 he kc.1 k hk (X.2.2.2.2.1 _ hlink) (fun _ h9 => h9) hfin (ty := .int) (hty ▸ kc.2.2.1 k hk) rfl rfl hl d (fun H1 locs1 hP hD hS => kk H1 locs1 ?_)
  rw [hset] at hP hD
  exact ⟨hP, hD, hS, hw.2.2.2⟩
theorem z_putN (X : Cx p s m args c cc nL R_Ed D cA) (hw : Wd D A H0 ws H locs) {ci : Nat} {C : String} {T : u_T} {N : Nat} {ty : Nat → FieldType} (kc : KC ci C T N ty) (q0 : Nat) {q : Nat} {fs : List Value} (he : ws[q0]? = some (q, .inr (ci, fs))) (k : Nat) (hk : k < N) (hfin : (T k).2.2.2 = false) (hty : ty k = .int) (hl : k < fs.length) {idx : Nat} {ref : String} (hlink : (Cond.fieldLinkNest R_Ed idx ref (T k).2.1 (T k).2.2.1 R_Ed).before args s = true) (hs : (T k).1 = ref) (d : decode cc pc = .ok (.putfield idx, 3)) (hset : ws.set q0 (q, .inr (ci, fs.set k (.int (iI a)))) = ws') (kk : ∀ (H1 : Heap) (locs1 : List Loc), Wd D A H0 ws' H1 locs1 → W p l e R s m args below meth c H1 locs1 cells slots Q (F0 m (pc + 3) ls rest)) : W p l e R s m args below meth c H locs cells slots Q (F0 m pc ls (.int (iI a) :: .ref q :: rest)) := by
  subst hs
  refine va_putN X.1 X.2.1 X.2.2.2.2.1 kc.2.1 ty kc.2.2.1 kc.2.2.2 X.2.2.2.1 X.2.2.2.2.2.1 hw.1 hw.2.1 hw.2.2.1 q0 he kc.1 k hk hlink (fun _ h9 => h9) hfin (ty := .int) (hty ▸ kc.2.2.1 k hk) rfl rfl hl d (fun H1 locs1 hP hD hS => kk H1 locs1 ?_)
  rw [hset] at hP hD
  exact ⟨hP, hD, hS, hw.2.2.2⟩
/-- a final field, in the constructor: a reference -/
theorem z_putF (X : Cx p s m args c cc nL own D cA) (hw : Wd D A H0 ws H locs) (hnm : meth.name = "<init>") {ci : Nat} {C : String} {T : u_T} {N : Nat} {ty : Nat → FieldType} (kc : KC ci C T N ty) (q0 : Nat) {q v : Nat} {fs : List Value} (he : ws[q0]? = some (q, .inr (ci, fs))) (k : Nat) (hk : k < N) (hfin : (T k).2.2.2 = true) (hdecl : (T k).1 = own) (hn : narrow (ty k) (.ref v) = .ref v) (hfit : fits (ty k) (.ref v) = true) (hl : k < fs.length) {idx : Nat} {ref : String} (hlink : Cond.fieldLink own idx ref (T k).2.1 (T k).2.2.1 ∈ gW) (hs : (T k).1 = ref) (d : decode cc pc = .ok (.putfield idx, 3)) (hset : ws.set q0 (q, .inr (ci, fs.set k (.ref v))) = ws') (kk : ∀ (H1 : Heap) (locs1 : List Loc), Wd D A H0 ws' H1 locs1 → W p l e R s m args below meth c H1 locs1 cells slots Q (F0 m (pc + 3) ls rest)) : W p l e R s m args below meth c H locs cells slots Q (F0 m pc ls (.ref v :: .ref q :: rest)) := by
  subst hs
  refine va_putF X.1 X.2.1 X.2.2.2.2.1 kc.2.1 ty kc.2.2.1 kc.2.2.2 X.2.2.2.1 X.2.2.2.2.2.1 hw.1 hw.2.1 hw.2.2.1 q0 he kc.1 k hk (X.2.2.2.2.1 _ hlink) (fun _ h9 => h9) hfin hnm hdecl (ty := ty k) (kc.2.2.1 k hk) hn hfit hl d (fun H1 locs1 hP hD hS => kk H1 locs1 ?_)
  rw [hset] at hP hD
  exact ⟨hP, hD, hS, hw.2.2.2⟩
theorem z_new (X : Cx p s m args c cc nL own D cA) (hw : Wd D A H0 ws H locs) {ci : Nat} {C : String} {T : u_T} {N : Nat} {ty : Nat → FieldType} (kc : KC ci C T N ty) {idx : Nat} (h1 : Cond.classLink own idx C ∈ gW) (h2 : Cond.instantiable C N ∈ gW) (h3 : Cond.initialized C ∈ gW) {fs : List Value} (hfs : ∀ j, j < N → defaultValue (ty j) = vp_V fs j) (hcells : cells + 1 ≤ R.cells) (hslots : slots + N ≤ R.slots) (d : decode cc pc = .ok (.new idx, 3)) (kk : ∀ (q : Nat) (H1 : Heap), Wd D A H0 (ws ++ [(q, .inr (ci, fs))]) H1 locs → W p l e R s m args below meth c H1 locs (cells + 1) (slots + N) Q (F0 m (pc + 3) ls (.ref q :: rest))) : W p l e R s m args below meth c H locs cells slots Q (F0 m pc ls rest) :=
  va_new X.1 X.2.1 X.2.2.2.2.1 kc.2.1 ty kc.2.2.1 X.2.2.2.1 (X.2.2.2.2.1 _ h1) (X.2.2.2.2.1 _ h2) (X.2.2.2.2.1 _ h3) X.2.2.2.2.2.1 hw.1 hw.2.1 hw.2.2.1 hw.2.2.2 kc.1 hfs hcells hslots d (fun q H1 hP hD hS => kk q H1 ⟨hP, hD, hS, hw.2.2.2⟩)
theorem ra_inj {U : State} {c1 c2 : ClassId} {ty : FieldType} (h : ∀ C, ty ≠ .object C) (h1 : va_RA U c1 ty) (h2 : va_RA U c2 ty) : c1 = c2 := by
  cases ty with
  | object C => exact absurd rfl (h C)
  | _ => exact Option.some.inj (Eq.trans (Eq.symm h1) h2)
/-- a new array of zeros: its class is the one that the tables have -/
theorem z_newa (X : Cx p s m args c cc nL own D cA) (hw : Wd D A H0 ws H locs) {atype : ArrayType} {ty : FieldType} (hty : newarray.typeOf atype = ty) (h1 : Cond.arrayClass ty ∈ gW) (t0 : Nat) {k : ClassId} (ht : (tY cA)[t0]? = some (k, ty)) (hob : ∀ C, ty ≠ .object C) (n : Nat) (hn : n < 536870) (ha : ∀ cA : ClassId, vp_cell cA (n, .inl (zf (fun _ => 0))) = arrV cA n (fun _ => defaultValue ty)) (hz : z = n) (hb : componentBytes ty ≤ 1000) (hcells : cells + 1 ≤ R.cells) (hslots : slots + n ≤ R.slots) (d : decode cc pc = .ok (.newarray atype, 2)) (kk : ∀ (q : Nat) (H1 : Heap), Wd D A H0 (ws ++ [(q, .inl (k, n, .inl (zf (fun _ => 0))))]) H1 locs → W p l e R s m args below meth c H1 locs (cells + 1) (slots + n) Q (F0 m (pc + 2) ls (.ref q :: rest))) : W p l e R s m args below meth c H locs cells slots Q (F0 m pc ls (.int (iI z) :: rest)) := by
  subst hz
  refine va_newa X.1 X.2.1 (by rw [hty]; exact X.2.2.2.2.1 _ h1) hty X.2.2.2.2.2.1 hw.1 hw.2.1 hw.2.2.1 hw.2.2.2 (a0 := (n, .inl (zf (fun _ => 0)))) ha (by
    show ¬ iI n < iI 0
    rw [iI_lt (by omega) (by omega)]
    omega) (iI_cl (by omega)) (Nat.le_trans (Nat.mul_le_mul (Nat.le_of_lt hn) hb) (by decide)) hcells hslots d (fun q k2 H1 hK2 hP hD hS => ?_)
  have e : k2 = k := ra_inj hob (hK2.2 3 (k2, ty) rfl).2 (X.2.2.2.2.2.1.2 t0 _ ht).2
  subst e
  exact kk q H1 ⟨hP, hD, hS, hw.2.2.2⟩
/-! ===== calls ===== -/
theorem z_afterR {post : Int → Prop} {x : Array Value} (hr : va_Run p l e R s m args below meth c H locs cells slots 0 0 (F0 m pc ls st0) rest (Qro post x) (fun _ => False)) (kk : ∀ z : Int, post z → W p l e R s m args below meth c H locs cells slots Q (F0 m (pc + 3) ls (.int (iI z) :: rest))) : W p l e R s m args below meth c H locs cells slots Q (F0 m pc ls st0) := by
  intro T hT X
  obtain ⟨v, st₀, t, T', L, h0, X', hL, e1, e2, ⟨z, hv, hp, hh⟩, st⟩ := hr T hT X
  cases hv
  have hL0 : L = [] := List.eq_nil_iff_forall_not_mem.mpr hL
  subst hL0
  rw [List.append_nil] at X'
  obtain ⟨t2, a1, b1⟩ := kk z hp T' (by rw [e1, hh, h0]) X'
  exact ⟨t2, st t2 a1, b1⟩
theorem z_preV (X : Cx p s m args c cc nL own D cA) (hw : Wd D A H0 ws H locs) {ci : Nat} {C : String} {T : u_T} {N : Nat} {ty : Nat → FieldType} (kc : KC ci C T N ty) {q0 q : Nat} {fs : List Value} (he : ws[q0]? = some (q, .inr (ci, fs))) {As : List Value} {wc : va_W} (is : List Nat) (hn : va_nd is = true) (h1 : is.map (fun i => ws[i]?) = wc.map some) (h2 : is.filterMap (fun i => ws[i]?) = wc) : PreV s H C q (zP (.ref q :: As) D cA wc H.size) As :=
  ⟨zP_blind, va_recv X.2.2.2.2.2.1 hw.1 kc.1 he, fun U hU hW => ⟨rfl, by rw [hU], by rw [hU]; exact hw.1.sub is h2, va_K.moved hW.alike X.2.2.2.2.2.1, (hw.2.1.sub is hn h1).weaken (fun _ _ _ _ => trivial), NW.warm hW X.2.2.2.2.2.2⟩⟩
theorem z_preS (X : Cx p s m args c cc nL own D cA) (hw : Wd D A H0 ws H locs) {As : List Value} {wc : va_W} (is : List Nat) (hn : va_nd is = true) (h1 : is.map (fun i => ws[i]?) = wc.map some) (h2 : is.filterMap (fun i => ws[i]?) = wc) : PreS s H (zP As D cA wc H.size) As :=
  ⟨zP_blind, fun U hU hW => ⟨rfl, by rw [hU], by rw [hU]; exact hw.1.sub is h2, va_K.moved hW.alike X.2.2.2.2.2.1, (hw.2.1.sub is hn h1).weaken (fun _ _ _ _ => trivial), NW.warm hW X.2.2.2.2.2.2⟩⟩
/-- a call of a method that writes nothing: the heap is as it was -/
theorem z_callR {ci : Nat} {C : String} {T : u_T} {N : Nat} {ty : Nat → FieldType} {idx : Nat} {y : MethodName} {bt : ByteArray} {maxL : Nat} {rt : Option FieldType} {n : Nat} {rm : Room} {post : Int → Prop} {q : Nat} {fs : List Value} {wc : va_W}
    (X : Cx p s m args c cc nL own D cA) (hw : Wd D A H0 ws H locs) (kc : KC ci C T N ty) (v : vW own idx C y bt maxL rt n) (As : List Value) (hM : Met l y (cW y bt maxL rt) rm (zP (.ref q :: As) D cA wc H.size) (Qro post) 0 0 (fun _ => False)) (q0 : Nat) (he : ws[q0]? = some (q, .inr (ci, fs))) (is : List Nat) (hn : va_nd is = true) (h1 : is.map (fun i => ws[i]?) = wc.map some) (h2 : is.filterMap (fun i => ws[i]?) = wc)
    (hA : As.length = n) (hz : ls.size = nL) (hst : st0 = As.reverse ++ .ref q :: rest) (hrs : (rest.map fun v => v.category).sum ≤ 8) (hrm : rm.cells = 0 ∧ rm.slots = 0 ∧ rm.frames + 1 ≤ R.frames ∧ 8 + (maxL + 11) + rm.locals ≤ R.locals) (hf : cells + 0 ≤ R.cells ∧ slots + 0 ≤ R.slots) (d : decode cc pc = .ok (.invokevirtual idx, 3)) (kk : ∀ z : Int, post z → W p l e R s m args below meth c H locs cells slots Q (F0 m (pc + 3) ls (.int (iI z) :: rest))) : W p l e R s m args below meth c H locs cells slots Q (F0 m pc ls st0) :=
  z_afterR (va_runV ⟨X.1, X.2.1, X.2.2.1, X.2.2.2.1, X.2.2.2.2.1⟩ hM (cwV n X.2.2.2.2.1 (gi_V v) rfl hrm.1 hrm.2.1 v.2.2.2.2.2 hrm.2.2) (z_preV X hw kc he is hn h1 h2) rfl hA hz hst (lv_room hrs) d hf) kk
/-- the same, a private method of a nest mate -/
theorem z_callRN {ci : Nat} {C : String} {T : u_T} {N : Nat} {ty : Nat → FieldType} {idx : Nat} {y : MethodName} {bt : ByteArray} {maxL : Nat} {rt : Option FieldType} {n : Nat} {rm : Room} {post : Int → Prop} {q : Nat} {fs : List Value} {wc : va_W}
    (X : Cx p s m args c cc nL R_Ed D cA) (hw : Wd D A H0 ws H locs) (kc : KC ci C T N ty) (v1 : va_Nw (.methodLinkNest R_Ed idx y R_Ed) s) (v2 : Cond.instanceMethod y ∈ gW) (v3 : Cond.selects C y y ∈ gW) (v4 : Cond.initialized y.cls ∈ gW) (v5 : Cond.code y bt maxL rt ∈ gW) (v6 : y.cls ≠ "java/lang/invoke/MethodHandle" ∧ y.cls ≠ "java/lang/invoke/VarHandle" ∧ (parseMethodDescriptor y.desc).map (fun d => d.parameters.length) = some n) (As : List Value) (hM : Met l y (cW y bt maxL rt) rm (zP (.ref q :: As) D cA wc H.size) (Qro post) 0 0 (fun _ => False)) (q0 : Nat) (he : ws[q0]? = some (q, .inr (ci, fs))) (is : List Nat) (hn : va_nd is = true) (h1 : is.map (fun i => ws[i]?) = wc.map some) (h2 : is.filterMap (fun i => ws[i]?) = wc)
    (hA : As.length = n) (hz : ls.size = nL) (hst : st0 = As.reverse ++ .ref q :: rest) (hrs : (rest.map fun v => v.category).sum ≤ 8) (hrm : rm.cells = 0 ∧ rm.slots = 0 ∧ rm.frames + 1 ≤ R.frames ∧ 8 + (maxL + 11) + rm.locals ≤ R.locals) (hf : cells + 0 ≤ R.cells ∧ slots + 0 ≤ R.slots) (d : decode cc pc = .ok (.invokevirtual idx, 3)) (kk : ∀ z : Int, post z → W p l e R s m args below meth c H locs cells slots Q (F0 m (pc + 3) ls (.int (iI z) :: rest))) : W p l e R s m args below meth c H locs cells slots Q (F0 m pc ls st0) :=
  z_afterR (va_runVN (C := C) (host := R_Ed) ⟨X.1, X.2.1, X.2.2.1, X.2.2.2.1, X.2.2.2.2.1⟩ hM ⟨va_cnB n X.2.2.2.2.1 (gi_cW v5) rfl hrm.1 hrm.2.1 v1 (X.2.2.2.2.1 _ v4) v6 hrm.2.2, X.2.2.2.2.1 _ v2, X.2.2.2.2.1 _ v3⟩ (z_preV X hw kc he is hn h1 h2) rfl hA hz hst (lv_room hrs) d hf) kk
theorem z_callRS {idx : Nat} {y : MethodName} {bt : ByteArray} {maxL : Nat} {rt : Option FieldType} {n : Nat} {rm : Room} {post : Int → Prop}
    (X : Cx p s m args c cc nL own D cA) (hw : Wd D A H0 ws H locs) (v : vS own idx y bt maxL rt n) (As : List Value) (hM : Met l y (cW y bt maxL rt) rm (zP As D cA [] H.size) (Qro post) 0 0 (fun _ => False))
    (hA : As.length = n) (hz : ls.size = nL) (hst : st0 = As.reverse ++ rest) (hrs : (rest.map fun v => v.category).sum ≤ 8) (hrm : rm.cells = 0 ∧ rm.slots = 0 ∧ rm.frames + 1 ≤ R.frames ∧ 8 + (maxL + 11) + rm.locals ≤ R.locals) (hf : cells + 0 ≤ R.cells ∧ slots + 0 ≤ R.slots) (d : decode cc pc = .ok (.invokestatic idx, 3)) (kk : ∀ z : Int, post z → W p l e R s m args below meth c H locs cells slots Q (F0 m (pc + 3) ls (.int (iI z) :: rest))) : W p l e R s m args below meth c H locs cells slots Q (F0 m pc ls st0) :=
  z_afterR (va_runS ⟨X.1, X.2.1, X.2.2.1, X.2.2.2.1, X.2.2.2.2.1⟩ hM (cwS n X.2.2.2.2.1 (gi_S v) rfl hrm.1 hrm.2.1 v.2.2.2.2 hrm.2.2) (z_preS X hw [] rfl rfl rfl) rfl hA hz hst (lv_room hrs) d hf) kk
/-- behind a call that writes: the callee's cells anew, the others as they were, in the caller's order -/
theorem z_afterV {S : Type} {post : S → Prop} {w w2 : S → va_W} {x : Array Value} {mc ms : Nat} {wc wr : va_W} (hw : Wd D A s.heap ws H locs) (hr : va_Run p l e R s m args below meth c H locs cells slots mc ms (F0 m pc ls st0) rest (zQv post w D wc H.size x) (va_A wc H.size)) (isC isR is : List Nat) (hC : isC.map (fun i => ws[i]?) = wc.map some) (hR : isR.map (fun i => ws[i]?) = wr.map some) (hnR : va_nd isR = true) (hdis : ∀ i ∈ isR, i ∉ isC) (hn : va_nd is = true) (h1 : ∀ u, is.map (fun i => (wr ++ w u)[i]?) = (w2 u).map some) (h2 : ∀ u, is.filterMap (fun i => (wr ++ w u)[i]?) = w2 u)
    (kk : ∀ (u : S) (H1 : Heap) (locs1 : List Loc), post u → Wd D A s.heap (w2 u) H1 locs1 → W p l e R s m args below meth c H1 locs1 (cells + mc) (slots + ms) Q (F0 m (pc + 3) ls rest)) : W p l e R s m args below meth c H locs cells slots Q (F0 m pc ls st0) := by
  obtain ⟨hP, hD, hS, hA⟩ := hw
  have hF := va_free hD hS hA isC hC
  refine va_callv hr hS (fun q _ h => hF q h) hF (fun u t H1 locs1 ht hvm hp hB hz1 hk1 hS1 => kk u H1 locs1 hp ?_)
  obtain ⟨hP1, hD1⟩ := hB
  rw [ht] at hP1
  obtain ⟨hP2, hD2⟩ := va_join hP hD isC isR hC hR hnR hdis hk1 hF hP1 hD1
  exact ⟨hP2.sub is (h2 u), hD2.sub is hn (h1 u), hS1, hA⟩
theorem z_afterI {S : Type} {post : Int → S → Prop} {w w2 : S → va_W} {x : Array Value} {mc ms : Nat} {wc wr : va_W} (hw : Wd D A s.heap ws H locs) (hr : va_Run p l e R s m args below meth c H locs cells slots mc ms (F0 m pc ls st0) rest (zQi post w D wc H.size x) (va_A wc H.size)) (isC isR is : List Nat) (hC : isC.map (fun i => ws[i]?) = wc.map some) (hR : isR.map (fun i => ws[i]?) = wr.map some) (hnR : va_nd isR = true) (hdis : ∀ i ∈ isR, i ∉ isC) (hn : va_nd is = true) (h1 : ∀ u, is.map (fun i => (wr ++ w u)[i]?) = (w2 u).map some) (h2 : ∀ u, is.filterMap (fun i => (wr ++ w u)[i]?) = w2 u)
    (kk : ∀ (z : Int) (u : S) (H1 : Heap) (locs1 : List Loc), post z u → Wd D A s.heap (w2 u) H1 locs1 → W p l e R s m args below meth c H1 locs1 (cells + mc) (slots + ms) Q (F0 m (pc + 3) ls (.int (iI z) :: rest))) : W p l e R s m args below meth c H locs cells slots Q (F0 m pc ls st0) := by
  obtain ⟨hP, hD, hS, hA⟩ := hw
  have hF := va_free hD hS hA isC hC
  refine va_calli hr hS (fun q _ h => hF q h) hF (fun r u t H1 locs1 ht hvm hp hB hz1 hk1 hS1 => ?_)
  obtain ⟨z, rfl, hp⟩ := hp
  refine kk z u H1 locs1 hp ?_
  obtain ⟨hP1, hD1⟩ := hB
  rw [ht] at hP1
  obtain ⟨hP2, hD2⟩ := va_join hP hD isC isR hC hR hnR hdis hk1 hF hP1 hD1
  exact ⟨hP2.sub is (h2 u), hD2.sub is hn (h1 u), hS1, hA⟩
theorem z_runV {ci : Nat} {C : String} {T : u_T} {N : Nat} {ty : Nat → FieldType} {idx : Nat} {y : MethodName} {bt : ByteArray} {maxL : Nat} {rt : Option FieldType} {n mc ms : Nat} {rm : Room} {q : Nat} {fs : List Value} {wc : va_W} {Qc : Array Value → State → Outcome → State → Prop} {free : Addr → Prop}
    (X : Cx p s m args c cc nL own D cA) (hw : Wd D A H0 ws H locs) (kc : KC ci C T N ty) (v : vW own idx C y bt maxL rt n) (As : List Value) (hM : Met l y (cW y bt maxL rt) rm (zP (.ref q :: As) D cA wc H.size) Qc mc ms free) (q0 : Nat) (he : ws[q0]? = some (q, .inr (ci, fs))) (is : List Nat) (hn : va_nd is = true) (h1 : is.map (fun i => ws[i]?) = wc.map some) (h2 : is.filterMap (fun i => ws[i]?) = wc)
    (hA : As.length = n) (hz : ls.size = nL) (hst : st0 = As.reverse ++ .ref q :: rest) (hrs : (rest.map fun v => v.category).sum ≤ 8) (hrm : rm.cells = mc ∧ rm.slots = ms ∧ rm.frames + 1 ≤ R.frames ∧ 8 + (maxL + 11) + rm.locals ≤ R.locals) (hf : cells + mc ≤ R.cells ∧ slots + ms ≤ R.slots) (d : decode cc pc = .ok (.invokevirtual idx, 3)) :
    va_Run p l e R s m args below meth c H locs cells slots mc ms (F0 m pc ls st0) rest (Qc (Value.ref q :: As).toArray) free :=
  va_runV ⟨X.1, X.2.1, X.2.2.1, X.2.2.2.1, X.2.2.2.2.1⟩ hM (cwV n X.2.2.2.2.1 (gi_V v) rfl hrm.1 hrm.2.1 v.2.2.2.2.2 hrm.2.2) (z_preV X hw kc he is hn h1 h2) rfl hA hz hst (lv_room hrs) d hf
theorem z_runI {idx : Nat} {y : MethodName} {bt : ByteArray} {maxL : Nat} {n mc ms : Nat} {rm : Room} {q : Nat} {wc : va_W} {Qc : Array Value → State → Outcome → State → Prop} {free : Addr → Prop}
    (X : Cx p s m args c cc nL own D cA) (hw : Wd D A H0 ws H locs) (v : vI own idx y bt maxL n) (As : List Value) (hM : Met l y (cW y bt maxL none) rm (zP (.ref q :: As) D cA wc H.size) Qc mc ms free) (is : List Nat) (hn : va_nd is = true) (h1 : is.map (fun i => ws[i]?) = wc.map some) (h2 : is.filterMap (fun i => ws[i]?) = wc)
    (hA : As.length = n) (hz : ls.size = nL) (hst : st0 = As.reverse ++ .ref q :: rest) (hrs : (rest.map fun v => v.category).sum ≤ 8) (hrm : rm.cells = mc ∧ rm.slots = ms ∧ rm.frames + 1 ≤ R.frames ∧ 8 + (maxL + 11) + rm.locals ≤ R.locals) (hf : cells + mc ≤ R.cells ∧ slots + ms ≤ R.slots) (d : decode cc pc = .ok (.invokespecial idx, 3)) :
    va_Run p l e R s m args below meth c H locs cells slots mc ms (F0 m pc ls st0) rest (Qc (Value.ref q :: As).toArray) free :=
  va_runI ⟨X.1, X.2.1, X.2.2.1, X.2.2.2.1, X.2.2.2.2.1⟩ hM (cwI n X.2.2.2.2.1 (gi_cW v.2.2.2.1) rfl hrm.1 hrm.2.1 (X.2.2.2.2.1 _ v.2.2.1) (X.2.2.2.2.1 _ v.1) (X.2.2.2.2.1 _ v.2.1) v.2.2.2.2.1 v.2.2.2.2.2 hrm.2.2) (z_preS X hw is hn h1 h2) rfl hA hz hst (lv_room hrs) d hf
theorem z_runIN {idx : Nat} {y : MethodName} {bt : ByteArray} {maxL : Nat} {n mc ms : Nat} {rm : Room} {q : Nat} {wc : va_W} {Qc : Array Value → State → Outcome → State → Prop} {free : Addr → Prop}
    (X : Cx p s m args c cc nL R_Ed D cA) (hw : Wd D A H0 ws H locs) (v1 : va_Nw (.methodLinkNest R_Ed idx y R_Ed) s) (v2 : Cond.instanceMethod y ∈ gW) (v4 : Cond.initialized y.cls ∈ gW) (v5 : Cond.code y bt maxL none ∈ gW) (v6 : y.cls ≠ "java/lang/invoke/MethodHandle" ∧ y.cls ≠ "java/lang/invoke/VarHandle" ∧ (parseMethodDescriptor y.desc).map (fun d => d.parameters.length) = some n) (v7 : y.name = "<init>") (As : List Value) (hM : Met l y (cW y bt maxL none) rm (zP (.ref q :: As) D cA wc H.size) Qc mc ms free) (is : List Nat) (hn : va_nd is = true) (h1 : is.map (fun i => ws[i]?) = wc.map some) (h2 : is.filterMap (fun i => ws[i]?) = wc)
    (hA : As.length = n) (hz : ls.size = nL) (hst : st0 = As.reverse ++ .ref q :: rest) (hrs : (rest.map fun v => v.category).sum ≤ 8) (hrm : rm.cells = mc ∧ rm.slots = ms ∧ rm.frames + 1 ≤ R.frames ∧ 8 + (maxL + 11) + rm.locals ≤ R.locals) (hf : cells + mc ≤ R.cells ∧ slots + ms ≤ R.slots) (d : decode cc pc = .ok (.invokespecial idx, 3)) :
    va_Run p l e R s m args below meth c H locs cells slots mc ms (F0 m pc ls st0) rest (Qc (Value.ref q :: As).toArray) free :=
  va_runIN (host := R_Ed) ⟨X.1, X.2.1, X.2.2.1, X.2.2.2.1, X.2.2.2.2.1⟩ hM ⟨va_cnB n X.2.2.2.2.1 (gi_cW v5) rfl hrm.1 hrm.2.1 v1 (X.2.2.2.2.1 _ v4) v6 hrm.2.2, v7, X.2.2.2.2.1 _ v2⟩ (z_preS X hw is hn h1 h2) rfl hA hz hst (lv_room hrs) d hf
theorem z_objInit (X : Cx p s m args c cc nL own D cA) {idx : Nat} (h1 : Cond.methodLink own idx objectInit ∈ gW) {q : Nat} (hz : ls.size = nL) (d : decode cc pc = .ok (.invokespecial idx, 3)) (hfr : 1 ≤ R.frames) (hlo : (rest.map fun v => v.category).sum + 12 ≤ R.locals) (kk : W p l e R s m args below meth c H locs cells slots Q (F0 m (pc + 3) ls rest)) : W p l e R s m args below meth c H locs cells slots Q (F0 m pc ls (.ref q :: rest)) :=
  W.objInit X.1 X.2.1 X.2.2.2.1 (X.2.2.2.2.1 _ h1) (X.2.2.2.2.1 _ m_im_obj_init) (X.2.2.2.2.1 _ m_co_obj_init) rfl (by rw [X.2.2.1]; exact hz) rfl d hfr (by show 2 * 0 + _ + 12 ≤ _; omega) (W.eq rfl kk)
/-! ===== ends ===== -/
theorem z_iretR {post : Int → Prop} (X : Cx p s m args c cc nL own D cA) {ty : FieldType} (hr : meth.sig.returnType = some ty) (hlk : meth.locks = false) (hn : narrow ty (.int (iI z)) = .int (iI z)) (hp : post z) (d : decode cc pc = .ok (.ireturn, 1)) : W p l e R s m args below meth c s.heap [] 0 0 (MQ below (Qro post) args s 0 0 (fun _ => False)) (F0 m pc ls [.int (iI z)]) :=
  W.zret X.1 X.2.1 hr hn (fun t ht hW => ⟨z, rfl, hp, ht⟩) (fun q h => by cases h) d hlk
theorem z_vret {S : Type} {post : S → Prop} {w : S → va_W} {sz : Nat} {ws0 : va_W} (X : Cx p s m args c cc nL own D cA) (hr : meth.sig.returnType = none) (hlk : meth.locks = false) (u : S) (hp : post u) (hw : Wd D (va_A ws0 sz) s.heap (w u) H locs) (d : decode cc pc = .ok (.return_, 1)) : W p l e R s m args below meth c H locs cells slots (MQ below (zQv post w D ws0 sz) args s cells slots (va_A ws0 sz)) (F0 m pc ls []) :=
  W.vret X.1 X.2.1 hr (fun t ht hW => ⟨⟨u, rfl, hp, by rw [ht]; exact hw.1, hw.2.1⟩, hw.2.2.1.F ht⟩) hw.2.2.1.2.2 d hlk
theorem z_iret {S : Type} {post : Int → S → Prop} {w : S → va_W} {sz : Nat} {ws0 : va_W} (X : Cx p s m args c cc nL own D cA) {ty : FieldType} (hr : meth.sig.returnType = some ty) (hlk : meth.locks = false) (hn : narrow ty (.int (iI z)) = .int (iI z)) (u : S) (hp : post z u) (hw : Wd D (va_A ws0 sz) s.heap (w u) H locs) (d : decode cc pc = .ok (.ireturn, 1)) : W p l e R s m args below meth c H locs cells slots (MQ below (zQi post w D ws0 sz) args s cells slots (va_A ws0 sz)) (F0 m pc ls [.int (iI z)]) :=
  W.zret X.1 X.2.1 hr hn (fun t ht hW => ⟨⟨iI z, u, rfl, ⟨z, rfl, hp⟩, by rw [ht]; exact hw.1, hw.2.1⟩, hw.2.2.1.F ht⟩) hw.2.2.1.2.2 d hlk
end ZR
/-- a contract's start -/
theorem z_ofW {l : Launch} {y : MethodName} {b : ByteArray} {maxL : Nat} {rt : Option FieldType} {rm : Room} {Qc : Array Value → State → Outcome → State → Prop} {mc ms : Nat} {free : Addr → Prop} {av : List Value} {D : va_G} {cA : Nat → ClassId} {ws : va_W} {sz : Nat} {lv : List (Nat × Value)} (hy : plainName y.cls = true) (hle : (lg_sl av).length ≤ maxL) (hlv : lv_args 0 av = lv)
    (body : ∀ (p : Program) (e : Env) (s : State) (m : MethodId) (below : List Frame) (meth : Method) (c : Code) (ls : Array Slot), meth.sig.returnType = rt → meth.locks = false → meth.name = y.name → Cx p s m av.toArray c b maxL y.cls D cA → s.heap.size = sz → Wd D (va_A ws sz) s.heap ws s.heap [] → lv_has ls maxL lv → W p l e rm s m av.toArray below meth c s.heap [] 0 0 (MQ below Qc av.toArray s mc ms free) (F0 m 0 ls [])) : Met l y (cW y b maxL rt) rm (zP av D cA ws sz) Qc mc ms free := by
  refine Met.ofW (cc := b) (maxL := maxL) (ret := rt) hy rfl ?_
  intro p e s m args below meth c s₁ B hml hv
  obtain ⟨rfl, hsz, hP, hK, hD0, hN⟩ := hv
  have hts := atoms_spec (ws := cW y b maxL rt) B.pre
  have hl := lv_entry av (n := maxL) hle
  rw [lg_entry_eq]
  generalize (lg_sl av ++ List.replicate (maxL - (lg_sl av).length) Slot.unset).toArray = ls at hl ⊢
  rw [hlv] at hl
  exact body p e s m below meth c ls B.returns B.notSynchronized (name_of_methodNamed B.named B.method).1 ⟨B.exec, B.bytes, hml, findClass_of_methodNamed B.named, fun w h => hts w (List.mem_cons_of_mem _ h), hK, hN⟩ hsz ⟨hP, hD0.self, va_S.rf, fun q h => Or.inr (by rw [← hsz]; exact h)⟩ hl
end
section
abbrev w_Tb (h : Nat → Nat) (cA : Nat → ClassId) (gA : Nat → Int) (gK : Nat → Int) : va_W := [(h 1, .inr (0, [.ref (h 2), .ref (h 3)])), (h 2, .inl (cA 0, 200, .inl (zf gA))), (h 3, .inl (cA 0, 20, .inl (zf gK)))]
abbrev w_TbA (h : Nat → Nat) (cA : Nat → ClassId) (gA : Nat → Int) : va_W := [(h 1, .inr (0, [.ref (h 2), .ref (h 3)])), (h 2, .inl (cA 0, 200, .inl (zf gA)))]
abbrev w_Sy (h : Nat → Nat) (cA : Nat → ClassId) (row : Nat → Int) (yl : Int) (yr : Int) : va_W := [(h 4, .inr (1, [.ref (h 5), .int (iI yl), .int (iI yr)])), (h 5, .inl (cA 0, 400, .inl (zf row)))]
abbrev w_SyO (h : Nat → Nat) (cA : Nat → ClassId) (yl : Int) (yr : Int) : va_W := [(h 4, .inr (1, [.ref (h 5), .int (iI yl), .int (iI yr)]))]
abbrev w_Sn (h : Nat → Nat) (cA : Nat → ClassId) (P : Nat → Int) (S : Nat → Int) (L : Nat → Int) (K : Nat → Int) (cl : Int) (cr : Int) : va_W := [(h 6, .inr (2, [.ref (h 7), .ref (h 8), .ref (h 9), .ref (h 10), .int (iI cl), .int (iI cr)])), (h 7, .inl (cA 1, 401, .inl (zf P))), (h 8, .inl (cA 2, 401, .inl (zf S))), (h 9, .inl (cA 2, 401, .inl (zf L))), (h 10, .inl (cA 0, 401, .inl (zf K)))]
abbrev w_SnO (h : Nat → Nat) (cA : Nat → ClassId) (cl : Int) (cr : Int) : va_W := [(h 6, .inr (2, [.ref (h 7), .ref (h 8), .ref (h 9), .ref (h 10), .int (iI cl), .int (iI cr)]))]
abbrev w_SnP (h : Nat → Nat) (cA : Nat → ClassId) (P : Nat → Int) (cl : Int) (cr : Int) : va_W := [(h 6, .inr (2, [.ref (h 7), .ref (h 8), .ref (h 9), .ref (h 10), .int (iI cl), .int (iI cr)])), (h 7, .inl (cA 1, 401, .inl (zf P)))]
abbrev w_SnK (h : Nat → Nat) (cA : Nat → ClassId) (K : Nat → Int) (cl : Int) (cr : Int) : va_W := [(h 6, .inr (2, [.ref (h 7), .ref (h 8), .ref (h 9), .ref (h 10), .int (iI cl), .int (iI cr)])), (h 10, .inl (cA 0, 401, .inl (zf K)))]
abbrev w_Ed (h : Nat → Nat) (cA : Nat → ClassId) (gA : Nat → Int) (gK : Nat → Int) (row : Nat → Int) (yl : Int) (yr : Int) (P : Nat → Int) (S : Nat → Int) (L : Nat → Int) (K : Nat → Int) (cl : Int) (cr : Int) (rd : Int) (an : Int) (ed : Int) (sz : Int) (lk : Int) (kd : Int) : va_W := [(h 0, .inr (3, [.ref (h 1), .ref (h 4), .ref (h 6), .int (iI rd), .int (iI an), .int (iI ed), .int (iI sz), .int (iI lk), .int (iI kd)])), (h 1, .inr (0, [.ref (h 2), .ref (h 3)])), (h 2, .inl (cA 0, 200, .inl (zf gA))), (h 3, .inl (cA 0, 20, .inl (zf gK))), (h 4, .inr (1, [.ref (h 5), .int (iI yl), .int (iI yr)])), (h 5, .inl (cA 0, 400, .inl (zf row))), (h 6, .inr (2, [.ref (h 7), .ref (h 8), .ref (h 9), .ref (h 10), .int (iI cl), .int (iI cr)])), (h 7, .inl (cA 1, 401, .inl (zf P))), (h 8, .inl (cA 2, 401, .inl (zf S))), (h 9, .inl (cA 2, 401, .inl (zf L))), (h 10, .inl (cA 0, 401, .inl (zf K)))]
abbrev w_Mo (k : Nat → Nat) (cA : Nat → ClassId) (mA : Nat → Int) (mK : Nat → Int) (mT : Nat → Int) (mn : Int) (tk : Int) (mB : Nat → Int) (mZ : Nat → Int) (mO : Nat → Int) (mL : Nat → Int) (fa : Int) (fl : Int) (oT : Int) (mQ : Nat → Int) (oF : Int) (oS : Int) (rm : Int) (sm : Int) (em : Int) (tS : Int) (tK : Int) (tL : Int) : va_W := [(k 0, .inr (4, [.ref (k 1), .ref (k 2), .ref (k 3), .int (iI mn), .int (iI tk), .ref (k 4), .ref (k 5), .ref (k 6), .ref (k 7), .int (iI fa), .int (iI fl), .int (iI oT), .ref (k 8), .int (iI oF), .int (iI oS), .int (iI rm), .int (iI sm), .int (iI em), .int (iI tS), .int (iI tK), .int (iI tL)])), (k 1, .inl (cA 1, 200, .inl (zf mA))), (k 2, .inl (cA 1, 20, .inl (zf mK))), (k 3, .inl (cA 1, 400, .inl (zf mT))), (k 4, .inl (cA 1, 400, .inl (zf mB))), (k 5, .inl (cA 1, 400, .inl (zf mZ))), (k 6, .inl (cA 1, 400, .inl (zf mO))), (k 7, .inl (cA 1, 400, .inl (zf mL))), (k 8, .inl (cA 1, 400, .inl (zf mQ)))]
/-- where a symbol leads -/
def nx (a : Nat → Int) (st : Nat) (c : Int) : Int := if c = -1 then -1 else a (10 * (st : Int) + c).toNat
/-- a row with a gap: where the i-th one lies; a column by its number; the places are told from the end behind the gap -/
def so (cl cr i : Nat) : Nat := if i < cl then i else i - cl + cr
def sX (X : Nat → Int) (cl cr : Nat) : Nat → Int := fun i => X (so cl cr i)
def sP (P : Nat → Int) (cl cr : Nat) (en : Int) : Nat → Int := fun i => if i < cl then P i else en - P (so cl cr i)
theorem so_l {cl cr i : Nat} (h : i < cl) : so cl cr i = i := if_pos h
theorem so_r {cl cr i : Nat} (h : ¬ i < cl) : so cl cr i = i - cl + cr := if_neg h
theorem so_lt {cl d i n : Nat} (h : i + d < n) (hc : cl + d ≤ n) : so cl (cl + d) i < n := by
  unfold so
  split <;> omega
theorem sX_R (X : Nat → Int) (x d j : Nat) : sX (uz X (x + d) (X x)) x (x + d) j = sX X (x + 1) (x + 1 + d) j := by
  unfold sX uz so
  rcases Nat.lt_trichotomy j x with q | q | q
  · rw [if_pos (show j < x by omega), if_neg (show ¬ j = x + d by omega), if_pos (show j < x + 1 by omega)]
  · subst q
    rw [if_neg (show ¬ j < j by omega), if_pos (show j - j + (j + d) = j + d by omega), if_pos (show j < j + 1 by omega)]
  · rw [if_neg (show ¬ j < x by omega), if_neg (show ¬ j - x + (x + d) = x + d by omega), if_neg (show ¬ j < x + 1 by omega)]
    exact congrArg X (by omega)
theorem sX_L (X : Nat → Int) (x d j : Nat) : sX (uz X x (X (x + d))) (x + 1) (x + 1 + d) j = sX X x (x + d) j := by
  unfold sX uz so
  rcases Nat.lt_trichotomy j x with q | q | q
  · rw [if_pos (show j < x + 1 by omega), if_neg (show ¬ j = x by omega), if_pos (show j < x by omega)]
  · subst q
    rw [if_pos (show j < j + 1 by omega), if_pos rfl, if_neg (show ¬ j < j by omega)]
    exact congrArg X (by omega)
  · rw [if_neg (show ¬ j < x + 1 by omega), if_neg (show ¬ j - (x + 1) + (x + 1 + d) = x by omega), if_neg (show ¬ j < x by omega)]
    exact congrArg X (by omega)
theorem sP_R (P : Nat → Int) (x d j : Nat) (en : Int) : sP (uz P (x + d) (en - P x)) x (x + d) en j = sP P (x + 1) (x + 1 + d) en j := by
  unfold sP uz so
  rcases Nat.lt_trichotomy j x with q | q | q
  · rw [if_pos q, if_pos (show j < x + 1 by omega), if_neg (show ¬ j = x + d by omega)]
  · subst q
    rw [if_neg (show ¬ j < j by omega), if_neg (show ¬ j < j by omega), if_pos (show j - j + (j + d) = j + d by omega), if_pos (show j < j + 1 by omega)]
    omega
  · rw [if_neg (show ¬ j < x by omega), if_neg (show ¬ j < x by omega), if_neg (show ¬ j - x + (x + d) = x + d by omega), if_neg (show ¬ j < x + 1 by omega), if_neg (show ¬ j < x + 1 by omega), show j - x + (x + d) = j - (x + 1) + (x + 1 + d) by omega]
theorem sP_L (P : Nat → Int) (x d j : Nat) (en : Int) : sP (uz P x (en - P (x + d))) (x + 1) (x + 1 + d) en j = sP P x (x + d) en j := by
  unfold sP uz so
  rcases Nat.lt_trichotomy j x with q | q | q
  · rw [if_pos (show j < x + 1 by omega), if_neg (show ¬ j = x by omega), if_pos (show j < x by omega)]
  · subst q
    rw [if_pos (show j < j + 1 by omega), if_pos rfl, if_neg (show ¬ j < j by omega), if_neg (show ¬ j < j by omega), show j - j + (j + d) = j + d by omega]
  · rw [if_neg (show ¬ j < x + 1 by omega), if_neg (show ¬ j < x + 1 by omega), if_neg (show ¬ j - (x + 1) + (x + 1 + d) = x by omega), if_neg (show ¬ j < x by omega), if_neg (show ¬ j < x by omega), show j - x + (x + d) = j - (x + 1) + (x + 1 + d) by omega]
/-- the symbol at a place of a text of n -/
def sy (t : Nat → Int) (n : Nat) (z : Int) : Int := if 0 ≤ z ∧ z < n then t z.toNat else -1
theorem uz_P {P : Nat → Int → Prop} {g : Nat → Int} {i : Nat} {x : Int} (h : ∀ j, j < i → P j (g j)) (hx : P i x) : ∀ j, j < i + 1 → P j (uz g i x j) := fun j hj => by
  by_cases q : j = i
  · subst q
    rw [uz_s]
    exact hx
  · rw [uz_n q]
    exact h j (by omega)
/-! ===== the symbols in a long ===== -/
def nbL (v : Int64) (z : Int) : Int64 := (v >>> ((iI z).toInt64 &&& 63)) &&& 15
def nb (v : Int64) (z : Int) : Int := (nbL v z).toInt
theorem nb_in (v : Int64) (z : Int) : 0 ≤ nb v z ∧ nb v z < 16 := by
  have h : (nbL v z).toBitVec.toNat ≤ 15 := by
    unfold nbL
    rw [Int64.toBitVec_and, BitVec.toNat_and]
    exact Nat.and_le_right
  have e : nb v z = ((nbL v z).toBitVec.toNat : Int) := by
    show (nbL v z).toBitVec.toInt = _
    exact BitVec.toInt_eq_toNat_of_lt (by omega)
  omega
theorem nb_ge (v : Int64) (z : Int) : (10 : Int64) ≤ nbL v z ↔ 10 ≤ nb v z := by
  rw [Int64.le_iff_toInt_le]
  exact Iff.rfl
section ZN
variable {p : Program} {l : Launch} {e : Env} {R : Room} {s : State} {m : MethodId} {args : Array Value} {below : List Frame} {meth : Method} {c : Code} {H : Heap} {locs : List Loc} {cells slots : Nat} {Q : State → Prop}
variable {cc : ByteArray} {nL : Nat} {own : String} {pc : Nat} {ls : Array Slot} {rest : List Value} {D : va_G} {cA : Nat → ClassId}
theorem z_nibi (X : Cx p s m args c cc nL own D cA) {v : Int64} {z : Int} (d : decode cc pc = .ok (.l2i, 1)) (k : W p l e R s m args below meth c H locs cells slots Q (F0 m (pc + 1) ls (.int (iI (nb v z)) :: rest))) : W p l e R s m args below meth c H locs cells slots Q (F0 m pc ls (.long (nbL v z) :: rest)) := lv_l2i X.1 X.2.1 d (v := iI (nb v z)) rfl k
theorem z_nibge (X : Cx p s m args c cc nL own D cA) {v : Int64} {z off : Int} {tgt : Nat} (d : decode cc pc = .ok (.lcmp, 1)) (d2 : decode cc (pc + 1) = .ok (.ifCond .ge off, 3)) (ht : ((pc + 1 : Nat) : Int) + off = (tgt : Int)) (kt : 10 ≤ nb v z → W p l e R s m args below meth c H locs cells slots Q (F0 m tgt ls rest)) (kf : ¬ 10 ≤ nb v z → W p l e R s m args below meth c H locs cells slots Q (F0 m (pc + 4) ls rest)) : W p l e R s m args below meth c H locs cells slots Q (F0 m pc ls (.long 10 :: .long (nbL v z) :: rest)) :=
  W.lcmp X.1 X.2.1 d (lv_if_ge X.1 X.2.1 d2 ht (fun h => kt ((nb_ge v z).mp ((lg_cmp_ge _ _).mp h))) (fun h => kf (fun q => h ((lg_cmp_ge _ _).mpr ((nb_ge v z).mpr q)))))
end ZN
end
section
set_option maxHeartbeats 4000000 in
set_option maxRecDepth 100000 in
/-- where a symbol leads -/
theorem c_Tb_next (l : Launch) (D : va_G) (cA : Nat → ClassId) (h : Nat → Nat) (hs : Nat) (gA : Nat → Int) (st : Nat) (c0 : Int) (hst : st < 20) (hc : c0 = -1 ∨ 0 ≤ c0 ∧ c0 < 10) : Met l y_Tb_next (cW y_Tb_next b_Tb_next 3 (some .int)) (rM 0 0) (zP [.ref (h 1), .int (iI (st:Int)), .int (iI c0)] D cA (w_TbA h cA gA) hs) (Qro (fun z => z = nx gA st c0)) 0 0 (fun _ => False) := by
  refine z_ofW (lv := [(0, .ref (h 1)), (1, .int (iI (st:Int))), (2, .int (iI c0))]) (by decide) (Nat.le_of_ble_eq_true rfl) rfl ?_
  intro p e s m below meth c ls hr hlk hnm X hhs hw hl
  have X : Cx p s m ([.ref (h 1), .int (iI (st:Int)), .int (iI c0)] : List Value).toArray c b_Tb_next 3 R_Tb D cA := X
  refine lv_iload_n X.1 X.2.1 d_Tb_next_0 rfl (lv_at hl 2 rfl) ?_
  refine z_iconst X d_Tb_next_1 ?_
  refine z_icmp_ne (tgt := 9) X d_Tb_next_2 (by decide) (by omega) (by omega) (fun c_2 => ?_) (fun c_2 => ?_)
  · refine lv_aload_n X.1 X.2.1 d_Tb_next_9 rfl (lv_at hl 0 rfl) ?_
    refine z_get X hw k_Tb 0 rfl 0 (by decide) rfl m_fl_Tb_9 rfl d_Tb_next_10 ?_
    refine z_bipush X d_Tb_next_13 (by decide) ?_
    refine lv_iload_n X.1 X.2.1 d_Tb_next_15 rfl (lv_at hl 1 rfl) ?_
    refine z_imul (r := (10 * (st:Int))) X d_Tb_next_16 rfl ?_
    refine lv_iload_n X.1 X.2.1 d_Tb_next_17 rfl (lv_at hl 2 rfl) ?_
    refine z_iadd (r := ((10 * (st:Int)) + c0)) X d_Tb_next_18 rfl ?_
    refine z_bald X hw 1 rfl ((10 * (st:Int) + c0).toNat) (by omega) (by omega) (by decide) d_Tb_next_19 ?_
    exact z_iretR X hr hlk rfl (by simp [nx, c_2]) d_Tb_next_20
  · refine z_iconst X d_Tb_next_5 ?_
    refine z_goto (tgt := 20) X d_Tb_next_6 (by decide) ?_
    exact z_iretR X hr hlk rfl (by simp [nx, c_2]) d_Tb_next_20
set_option maxHeartbeats 4000000 in
set_option maxRecDepth 100000 in
/-- all anew -/
theorem c_Tb_clear (l : Launch) (D : va_G) (cA : Nat → ClassId) (h : Nat → Nat) (hs : Nat) (gA gK : Nat → Int) : Met l y_Tb_clear (cW y_Tb_clear b_Tb_clear 2 none) (rM 0 0) (zP [.ref (h 1)] D cA (w_Tb h cA gA gK) hs) (zQv (fun u : (Nat → Int) × (Nat → Int) => (∀ j, j < 200 → u.1 j = -1) ∧ ∀ j, j < 20 → u.2 j = -1) (fun u => w_Tb h cA u.1 u.2) D (w_Tb h cA gA gK) hs) 0 0 (va_A (w_Tb h cA gA gK) hs) := by
  refine z_ofW (lv := [(0, .ref (h 1))]) (by decide) (Nat.le_of_ble_eq_true rfl) rfl ?_
  intro p e s m below meth c ls hr hlk hnm X hhs hw hl
  have X : Cx p s m ([.ref (h 1)] : List Value).toArray c b_Tb_clear 2 R_Tb D cA := X
  have lp2 : ∀ (f : Nat) (i : Nat) (g1 g2 : Nat → Int), i ≤ 20 → 20 < f + i → (∀ j, j < 200 → g1 j = -1) → (∀ j, j < i → g2 j = -1) → ∀ (H : Heap) (locs : List Loc) (ls : Array Slot), Wd D (va_A (w_Tb h cA gA gK) hs) s.heap (w_Tb h cA g1 g2) H locs → lv_has ls 2 [(1, .int (iI (i:Int))), (0, .ref (h 1))] → W p l e (rM 0 0) s m ([.ref (h 1)] : List Value).toArray below meth c H locs 0 0 (MQ below (zQv (fun u : (Nat → Int) × (Nat → Int) => (∀ j, j < 200 → u.1 j = -1) ∧ ∀ j, j < 20 → u.2 j = -1) (fun u => w_Tb h cA u.1 u.2) D (w_Tb h cA gA gK) hs) ([.ref (h 1)] : List Value).toArray s 0 0 (va_A (w_Tb h cA gA gK) hs)) (F0 m 26 ls []) := by
    intro f
    induction f with
    | zero =>
      intro i g1 g2 hi hf h1 h2 H locs ls hw hl
      exfalso; omega
    | succ f ih =>
      intro i g1 g2 hi hf h1 h2 H locs ls hw hl
      refine lv_iload_n X.1 X.2.1 d_Tb_clear_26 rfl (lv_at hl 0 rfl) ?_
      refine z_bipush X d_Tb_clear_27 (by decide) ?_
      refine z_icmp_ge (tgt := 45) X d_Tb_clear_29 (by decide) (by omega) (by omega) (fun c_29 => ?_) (fun c_29 => ?_)
      · exact z_vret X hr hlk (g1, g2) ⟨h1, fun j hj => h2 j (by omega)⟩ hw d_Tb_clear_45
      · refine lv_aload_n X.1 X.2.1 d_Tb_clear_32 rfl (lv_at hl 1 rfl) ?_
        refine z_get X hw k_Tb 0 rfl 1 (by decide) rfl m_fl_Tb_13 rfl d_Tb_clear_33 ?_
        refine lv_iload_n X.1 X.2.1 d_Tb_clear_36 rfl (lv_at hl 0 rfl) ?_
        refine z_iconst X d_Tb_clear_37 ?_
        refine z_bast (ws' := (w_Tb h cA g1 (uz g2 i (-1)))) X hw 2 rfl i (by omega) (by omega) (by decide) (by omega) d_Tb_clear_38 rfl (fun H locs hw => ?_)
        refine z_iinc (lv' := [(1, .int (iI ((i + 1 : Nat) : Int))), (0, .ref (h 1))]) (r := ((i + 1 : Nat) : Int)) (k := 0) X d_Tb_clear_39 hl rfl (by omega) (by decide) rfl (fun ls hl => ?_)
        refine z_goto (tgt := 26) X d_Tb_clear_42 (by decide) ?_
        exact ih (i + 1) g1 (uz g2 i (-1)) (by omega) (by omega) h1 (uz_P (P := fun _ x => x = -1) h2 rfl) H locs ls hw (lv_sub hl [0, 1] rfl)
  have lp1 : ∀ (f : Nat) (i : Nat) (g1 : Nat → Int), i ≤ 200 → 200 < f + i → (∀ j, j < i → g1 j = -1) → ∀ (H : Heap) (locs : List Loc) (ls : Array Slot), Wd D (va_A (w_Tb h cA gA gK) hs) s.heap (w_Tb h cA g1 gK) H locs → lv_has ls 2 [(1, .int (iI (i:Int))), (0, .ref (h 1))] → W p l e (rM 0 0) s m ([.ref (h 1)] : List Value).toArray below meth c H locs 0 0 (MQ below (zQv (fun u : (Nat → Int) × (Nat → Int) => (∀ j, j < 200 → u.1 j = -1) ∧ ∀ j, j < 20 → u.2 j = -1) (fun u => w_Tb h cA u.1 u.2) D (w_Tb h cA gA gK) hs) ([.ref (h 1)] : List Value).toArray s 0 0 (va_A (w_Tb h cA gA gK) hs)) (F0 m 2 ls []) := by
    intro f
    induction f with
    | zero =>
      intro i g1 hi hf h1 H locs ls hw hl
      exfalso; omega
    | succ f ih =>
      intro i g1 hi hf h1 H locs ls hw hl
      refine lv_iload_n X.1 X.2.1 d_Tb_clear_2 rfl (lv_at hl 0 rfl) ?_
      refine lv_aload_n X.1 X.2.1 d_Tb_clear_3 rfl (lv_at hl 1 rfl) ?_
      refine z_get X hw k_Tb 0 rfl 0 (by decide) rfl m_fl_Tb_9 rfl d_Tb_clear_4 ?_
      refine z_alen X hw 1 0 rfl rfl d_Tb_clear_7 ?_
      refine z_icmp_ge (tgt := 24) X d_Tb_clear_8 (by decide) (by omega) (by omega) (fun c_8 => ?_) (fun c_8 => ?_)
      · refine z_iconst X d_Tb_clear_24 ?_
        refine z_istore_n (lv' := [(1, .int (iI 0)), (0, .ref (h 1))]) X d_Tb_clear_25 rfl hl (by decide) rfl (fun ls hl => ?_)
        exact lp2 21 0 g1 gK (by omega) (by omega) (fun j hj => h1 j (by omega)) (fun j hj => absurd hj (Nat.not_lt_zero j)) H locs ls hw (lv_sub hl [0, 1] rfl)
      · refine lv_aload_n X.1 X.2.1 d_Tb_clear_11 rfl (lv_at hl 1 rfl) ?_
        refine z_get X hw k_Tb 0 rfl 0 (by decide) rfl m_fl_Tb_9 rfl d_Tb_clear_12 ?_
        refine lv_iload_n X.1 X.2.1 d_Tb_clear_15 rfl (lv_at hl 0 rfl) ?_
        refine z_iconst X d_Tb_clear_16 ?_
        refine z_bast (ws' := (w_Tb h cA (uz g1 i (-1)) gK)) X hw 1 rfl i (by omega) (by omega) (by decide) (by omega) d_Tb_clear_17 rfl (fun H locs hw => ?_)
        refine z_iinc (lv' := [(1, .int (iI ((i + 1 : Nat) : Int))), (0, .ref (h 1))]) (r := ((i + 1 : Nat) : Int)) (k := 0) X d_Tb_clear_18 hl rfl (by omega) (by decide) rfl (fun ls hl => ?_)
        refine z_goto (tgt := 2) X d_Tb_clear_21 (by decide) ?_
        exact ih (i + 1) (uz g1 i (-1)) (by omega) (by omega) (uz_P (P := fun _ x => x = -1) h1 rfl) H locs ls hw (lv_sub hl [0, 1] rfl)
  refine z_iconst X d_Tb_clear_0 ?_
  refine z_istore_n (lv' := [(1, .int (iI 0)), (0, .ref (h 1))]) X d_Tb_clear_1 rfl hl (by decide) rfl (fun ls hl => ?_)
  exact lp1 201 0 gA (by omega) (by omega) (fun j hj => absurd hj (Nat.not_lt_zero j)) _ _ ls hw (lv_sub hl [0, 1] rfl)
def h3 (q q1 q2 : Nat) : Nat → Nat := fun i => match i with | 1 => q | 2 => q1 | _ => q2
set_option maxHeartbeats 4000000 in
set_option maxRecDepth 100000 in
/-- a new table -/
theorem c_Tb_init (l : Launch) (D : va_G) (cA : Nat → ClassId)  (hs : Nat) (q : Nat) : Met l y_Tb_init (cW y_Tb_init b_Tb_init 1 none) { frames := 1, cells := 2, slots := 220, locals := 21 } (zP [.ref q] D cA [(q, .inr (0, [.null, .null]))] hs) (zQv (fun u : Nat × Nat × (Nat → Int) × (Nat → Int) => (∀ j, j < 200 → u.2.2.1 j = -1) ∧ ∀ j, j < 20 → u.2.2.2 j = -1) (fun u => [(q, .inr (0, [.ref u.1, .ref u.2.1])), (u.1, .inl (cA 0, 200, .inl (zf u.2.2.1))), (u.2.1, .inl (cA 0, 20, .inl (zf u.2.2.2)))]) D [(q, .inr (0, [.null, .null]))] hs) 2 220 (va_A [(q, .inr (0, [.null, .null]))] hs) := by
  refine z_ofW (lv := [(0, .ref q)]) (by decide) (Nat.le_of_ble_eq_true rfl) rfl ?_
  intro p e s m below meth c ls hr hlk hnm X hhs hw hl
  have X : Cx p s m ([.ref q] : List Value).toArray c b_Tb_init 1 R_Tb D cA := X
  refine lv_aload_n X.1 X.2.1 d_Tb_init_0 rfl (lv_at hl 0 rfl) ?_
  refine z_objInit X m_ml_Tb_1 hl.1 d_Tb_init_1 (Nat.le_of_ble_eq_true rfl) (Nat.le_of_ble_eq_true rfl) ?_
  refine lv_aload_n X.1 X.2.1 d_Tb_init_4 rfl (lv_at hl 0 rfl) ?_
  refine z_sipush X d_Tb_init_5 (by decide) ?_
  refine z_newa X hw (ty := .byte) rfl m_ac_byte 0 rfl (fun C h => by cases h) 200 (by decide) (fun _ => rfl) rfl (by decide) (Nat.le_of_ble_eq_true rfl) (Nat.le_of_ble_eq_true rfl) d_Tb_init_8 (fun q_8 H hw => ?_)
  refine W.widen (k := 1) (n := 200) (by decide) (by decide) ?_
  have hw : Wd D (va_A [(q, .inr (0, [.null, .null]))] hs) s.heap [(q, .inr (0, [.null, .null])), (q_8, .inl (cA 0, 200, .inl (zf (fun _ => 0))))] H _ := hw
  refine z_putF (ws' := [(q, .inr (0, [.ref q_8, .null])), (q_8, .inl (cA 0, 200, .inl (zf (fun _ => 0))))]) X hw hnm k_Tb 0 rfl 0 (by decide) rfl rfl rfl rfl (Nat.le_of_ble_eq_true rfl) m_fl_Tb_9 rfl d_Tb_init_10 rfl (fun H locs hw => ?_)
  refine lv_aload_n X.1 X.2.1 d_Tb_init_13 rfl (lv_at hl 0 rfl) ?_
  refine z_bipush X d_Tb_init_14 (by decide) ?_
  refine z_newa X hw (ty := .byte) rfl m_ac_byte 0 rfl (fun C h => by cases h) 20 (by decide) (fun _ => rfl) rfl (by decide) (Nat.le_of_ble_eq_true rfl) (Nat.le_of_ble_eq_true rfl) d_Tb_init_16 (fun q_16 H hw => ?_)
  refine W.widen (k := 2) (n := 220) (by decide) (by decide) ?_
  have hw : Wd D (va_A [(q, .inr (0, [.null, .null]))] hs) s.heap [(q, .inr (0, [.ref q_8, .null])), (q_8, .inl (cA 0, 200, .inl (zf (fun _ => 0)))), (q_16, .inl (cA 0, 20, .inl (zf (fun _ => 0))))] H _ := hw
  refine z_putF (ws' := [(q, .inr (0, [.ref q_8, .ref q_16])), (q_8, .inl (cA 0, 200, .inl (zf (fun _ => 0)))), (q_16, .inl (cA 0, 20, .inl (zf (fun _ => 0))))]) X hw hnm k_Tb 0 rfl 1 (by decide) rfl rfl rfl rfl (Nat.le_of_ble_eq_true rfl) m_fl_Tb_13 rfl d_Tb_init_18 rfl (fun H locs hw => ?_)
  refine lv_aload_n X.1 X.2.1 d_Tb_init_21 rfl (lv_at hl 0 rfl) ?_
  refine z_afterV (w2 := fun u => w_Tb (h3 q q_8 q_16) cA u.1 u.2) (wr := []) hw (z_runV (rest := []) X hw k_Tb v_Tb_16 [] (c_Tb_clear l D cA (h3 q q_8 q_16) _ (fun _ => 0) (fun _ => 0)) 0 rfl [0, 1, 2] rfl rfl rfl rfl hl.1 rfl (Nat.le_of_ble_eq_true rfl) ⟨rfl, rfl, Nat.le_of_ble_eq_true rfl, Nat.le_of_ble_eq_true rfl⟩ ⟨Nat.le_of_ble_eq_true rfl, Nat.le_of_ble_eq_true rfl⟩ d_Tb_init_22) [0, 1, 2] [] [0, 1, 2] rfl rfl rfl (by decide) rfl (fun _ => rfl) (fun _ => rfl) (fun u H locs hu hw => ?_)
  exact z_vret X hr hlk (q_8, q_16, u.1, u.2) hu hw d_Tb_init_25
end
section
set_option maxHeartbeats 4000000 in
set_option maxRecDepth 100000 in
/-- how many symbols -/
theorem c_Sy_size (l : Launch) (D : va_G) (cA : Nat → ClassId) (h : Nat → Nat) (hs : Nat) (yl yr : Int) : Met l y_Sy_size (cW y_Sy_size b_Sy_size 1 (some .int)) (rM 0 0) (zP [.ref (h 4)] D cA (w_SyO h cA yl yr) hs) (Qro (fun z => z = yl + 400 - yr)) 0 0 (fun _ => False) := by
  refine z_ofW (lv := [(0, .ref (h 4))]) (by decide) (Nat.le_of_ble_eq_true rfl) rfl ?_
  intro p e s m below meth c ls hr hlk hnm X hhs hw hl
  have X : Cx p s m ([.ref (h 4)] : List Value).toArray c b_Sy_size 1 R_Sy D cA := X
  refine lv_aload_n X.1 X.2.1 d_Sy_size_0 rfl (lv_at hl 0 rfl) ?_
  refine z_get X hw k_Sy 0 rfl 1 (by decide) rfl m_fl_Sy_17 rfl d_Sy_size_1 ?_
  refine z_sipush X d_Sy_size_4 (by decide) ?_
  refine z_iadd (r := (yl + 400)) X d_Sy_size_7 rfl ?_
  refine lv_aload_n X.1 X.2.1 d_Sy_size_8 rfl (lv_at hl 0 rfl) ?_
  refine z_get X hw k_Sy 0 rfl 2 (by decide) rfl m_fl_Sy_13 rfl d_Sy_size_9 ?_
  refine z_isub (r := ((yl + 400) - yr)) X d_Sy_size_12 rfl ?_
  exact z_iretR X hr hlk rfl rfl d_Sy_size_13
set_option maxHeartbeats 4000000 in
set_option maxRecDepth 100000 in
/-- the symbol at a place -/
theorem c_Sy_at (l : Launch) (D : va_G) (cA : Nat → ClassId) (h : Nat → Nat) (hs : Nat) (row : Nat → Int) (yl yr : Nat) (z0 : Int) (hz : -2147483648 ≤ z0 ∧ z0 < 2147483648) (h1 : yl ≤ yr) (h2 : yr ≤ 400) : Met l y_Sy_at (cW y_Sy_at b_Sy_at 2 (some .int)) (rM 1 20) (zP [.ref (h 4), .int (iI z0)] D cA (w_Sy h cA row (yl:Int) (yr:Int)) hs) (Qro (fun z => z = sy (sX row yl yr) (yl + 400 - yr) z0)) 0 0 (fun _ => False) := by
  refine z_ofW (lv := [(0, .ref (h 4)), (1, .int (iI z0))]) (by decide) (Nat.le_of_ble_eq_true rfl) rfl ?_
  intro p e s m below meth c ls hr hlk hnm X hhs hw hl
  have X : Cx p s m ([.ref (h 4), .int (iI z0)] : List Value).toArray c b_Sy_at 2 R_Sy D cA := X
  refine lv_iload_n X.1 X.2.1 d_Sy_at_0 rfl (lv_at hl 1 rfl) ?_
  refine z_if_lt (tgt := 12) X d_Sy_at_1 (by decide) (by omega) (fun c_1 => ?_) (fun c_1 => ?_)
  · refine z_iconst X d_Sy_at_12 ?_
    exact z_iretR X hr hlk rfl (by unfold sy; rw [if_neg (by omega)]) d_Sy_at_13
  · refine lv_iload_n X.1 X.2.1 d_Sy_at_4 rfl (lv_at hl 1 rfl) ?_
    refine lv_aload_n X.1 X.2.1 d_Sy_at_5 rfl (lv_at hl 0 rfl) ?_
    refine z_callR (rest := [.int (iI z0)]) X hw k_Sy v_Sy_20 [] (c_Sy_size l D cA h _ (yl:Int) (yr:Int)) 0 rfl [0] rfl rfl rfl rfl hl.1 rfl (Nat.le_of_ble_eq_true rfl) ⟨rfl, rfl, Nat.le_of_ble_eq_true rfl, Nat.le_of_ble_eq_true rfl⟩ ⟨Nat.le_of_ble_eq_true rfl, Nat.le_of_ble_eq_true rfl⟩ d_Sy_at_6 (fun z_6 hz_6 => ?_)
    subst hz_6
    refine z_icmp_lt (tgt := 14) X d_Sy_at_9 (by decide) (by omega) (by omega) (fun c_9 => ?_) (fun c_9 => ?_)
    · refine lv_iload_n X.1 X.2.1 d_Sy_at_14 rfl (lv_at hl 1 rfl) ?_
      refine lv_aload_n X.1 X.2.1 d_Sy_at_15 rfl (lv_at hl 0 rfl) ?_
      refine z_get X hw k_Sy 0 rfl 1 (by decide) rfl m_fl_Sy_17 rfl d_Sy_at_16 ?_
      refine z_icmp_ge (tgt := 31) X d_Sy_at_19 (by decide) (by omega) (by omega) (fun c_19 => ?_) (fun c_19 => ?_)
      · refine lv_aload_n X.1 X.2.1 d_Sy_at_31 rfl (lv_at hl 0 rfl) ?_
        refine z_get X hw k_Sy 0 rfl 0 (by decide) rfl m_fl_Sy_9 rfl d_Sy_at_32 ?_
        refine lv_iload_n X.1 X.2.1 d_Sy_at_35 rfl (lv_at hl 1 rfl) ?_
        refine lv_aload_n X.1 X.2.1 d_Sy_at_36 rfl (lv_at hl 0 rfl) ?_
        refine z_get X hw k_Sy 0 rfl 1 (by decide) rfl m_fl_Sy_17 rfl d_Sy_at_37 ?_
        refine z_isub (r := (z0 - (yl:Int))) X d_Sy_at_40 rfl ?_
        refine lv_aload_n X.1 X.2.1 d_Sy_at_41 rfl (lv_at hl 0 rfl) ?_
        refine z_get X hw k_Sy 0 rfl 2 (by decide) rfl m_fl_Sy_13 rfl d_Sy_at_42 ?_
        refine z_iadd (r := ((z0 - (yl:Int)) + (yr:Int))) X d_Sy_at_45 rfl ?_
        refine z_bald X hw 1 rfl ((z0 - (yl:Int) + (yr:Int)).toNat) (by omega) (by omega) (by decide) d_Sy_at_46 ?_
        exact z_iretR X hr hlk rfl (by unfold sy; rw [if_pos (by omega)]; exact congrArg row ((so_r (by omega)).trans (by omega)).symm) d_Sy_at_47
      · refine lv_aload_n X.1 X.2.1 d_Sy_at_22 rfl (lv_at hl 0 rfl) ?_
        refine z_get X hw k_Sy 0 rfl 0 (by decide) rfl m_fl_Sy_9 rfl d_Sy_at_23 ?_
        refine lv_iload_n X.1 X.2.1 d_Sy_at_26 rfl (lv_at hl 1 rfl) ?_
        refine z_bald X hw 1 rfl z0.toNat (by omega) (by omega) (by decide) d_Sy_at_27 ?_
        refine z_goto (tgt := 47) X d_Sy_at_28 (by decide) ?_
        exact z_iretR X hr hlk rfl (by unfold sy; rw [if_pos (by omega)]; exact congrArg row (so_l (by omega)).symm) d_Sy_at_47
    · refine z_iconst X d_Sy_at_12 ?_
      exact z_iretR X hr hlk rfl (by unfold sy; rw [if_neg (by omega)]) d_Sy_at_13
set_option maxHeartbeats 4000000 in
set_option maxRecDepth 100000 in
/-- the gap goes to a place -/
theorem c_Sy_go (l : Launch) (D : va_G) (cA : Nat → ClassId) (h : Nat → Nat) (hs : Nat) (row : Nat → Int) (yl d p0 : Nat) (h1 : yl + d ≤ 400) (h2 : p0 + d ≤ 400) (hb : ∀ j, j + d < 400 → -128 ≤ sX row yl (yl + d) j ∧ sX row yl (yl + d) j < 128) : Met l y_Sy_go (cW y_Sy_go b_Sy_go 2 none) (rM 0 0) (zP [.ref (h 4), .int (iI (p0:Int))] D cA (w_Sy h cA row (yl:Int) ((yl + d : Nat):Int)) hs) (zQv (fun u : Nat → Int => ∀ j, sX u p0 (p0 + d) j = sX row yl (yl + d) j) (fun u => w_Sy h cA u (p0:Int) ((p0 + d : Nat):Int)) D (w_Sy h cA row (yl:Int) ((yl + d : Nat):Int)) hs) 0 0 (va_A (w_Sy h cA row (yl:Int) ((yl + d : Nat):Int)) hs) := by
  refine z_ofW (lv := [(0, .ref (h 4)), (1, .int (iI (p0:Int)))]) (by decide) (Nat.le_of_ble_eq_true rfl) rfl ?_
  intro p e s m below meth c ls hr hlk hnm X hhs hw hl
  have X : Cx p s m ([.ref (h 4), .int (iI (p0:Int))] : List Value).toArray c b_Sy_go 2 R_Sy D cA := X
  have lp2 : ∀ (f : Nat) (x : Nat) (r : Nat → Int), x ≤ p0 → p0 < f + x → (∀ j, sX r x (x + d) j = sX row yl (yl + d) j) → ∀ (H : Heap) (locs : List Loc) (ls : Array Slot), Wd D (va_A (w_Sy h cA row (yl:Int) ((yl + d : Nat):Int)) hs) s.heap (w_Sy h cA r (x:Int) ((x + d : Nat):Int)) H locs → lv_has ls 2 [(0, .ref (h 4)), (1, .int (iI (p0:Int)))] → W p l e (rM 0 0) s m ([.ref (h 4), .int (iI (p0:Int))] : List Value).toArray below meth c H locs 0 0 (MQ below (zQv (fun u : Nat → Int => ∀ j, sX u p0 (p0 + d) j = sX row yl (yl + d) j) (fun u => w_Sy h cA u (p0:Int) ((p0 + d : Nat):Int)) D (w_Sy h cA row (yl:Int) ((yl + d : Nat):Int)) hs) ([.ref (h 4), .int (iI (p0:Int))] : List Value).toArray s 0 0 (va_A (w_Sy h cA row (yl:Int) ((yl + d : Nat):Int)) hs)) (F0 m 49 ls []) := by
    intro f
    induction f with
    | zero =>
      intro x r hx hf hi H locs ls hw hl
      exfalso; omega
    | succ f ih =>
      intro x r hx hf hi H locs ls hw hl
      refine lv_aload_n X.1 X.2.1 d_Sy_go_49 rfl (lv_at hl 0 rfl) ?_
      refine z_get X hw k_Sy 0 rfl 1 (by decide) rfl m_fl_Sy_17 rfl d_Sy_go_50 ?_
      refine lv_iload_n X.1 X.2.1 d_Sy_go_53 rfl (lv_at hl 1 rfl) ?_
      refine z_icmp_ge (tgt := 98) X d_Sy_go_54 (by decide) (by omega) (by omega) (fun c_54 => ?_) (fun c_54 => ?_)
      · obtain rfl : x = p0 := by omega
        exact z_vret X hr hlk r hi hw d_Sy_go_98
      · refine lv_aload_n X.1 X.2.1 d_Sy_go_57 rfl (lv_at hl 0 rfl) ?_
        refine z_get X hw k_Sy 0 rfl 0 (by decide) rfl m_fl_Sy_9 rfl d_Sy_go_58 ?_
        refine lv_aload_n X.1 X.2.1 d_Sy_go_61 rfl (lv_at hl 0 rfl) ?_
        have hb2 := hb x (by omega)
        rw [← hi x, show sX r x (x + d) x = r (x + d) from congrArg r ((so_r (by omega)).trans (by omega))] at hb2
        refine z_get X hw k_Sy 0 rfl 1 (by decide) rfl m_fl_Sy_17 rfl d_Sy_go_62 ?_
        refine lv_aload_n X.1 X.2.1 d_Sy_go_65 rfl (lv_at hl 0 rfl) ?_
        refine z_get X hw k_Sy 0 rfl 0 (by decide) rfl m_fl_Sy_9 rfl d_Sy_go_66 ?_
        refine lv_aload_n X.1 X.2.1 d_Sy_go_69 rfl (lv_at hl 0 rfl) ?_
        refine z_get X hw k_Sy 0 rfl 2 (by decide) rfl m_fl_Sy_13 rfl d_Sy_go_70 ?_
        refine z_bald X hw 1 rfl (x + d) (by omega) (by omega) (by decide) d_Sy_go_73 ?_
        refine z_bast (ws' := (w_Sy h cA (uz r x (r (x + d))) (x:Int) ((x + d : Nat):Int))) X hw 1 rfl x (by omega) (by omega) (by decide) (by omega) d_Sy_go_74 rfl (fun H locs hw => ?_)
        refine lv_aload_n X.1 X.2.1 d_Sy_go_75 rfl (lv_at hl 0 rfl) ?_
        refine lv_dup X.1 X.2.1 d_Sy_go_76 rfl ?_
        refine z_get X hw k_Sy 0 rfl 1 (by decide) rfl m_fl_Sy_17 rfl d_Sy_go_77 ?_
        refine z_iconst X d_Sy_go_80 ?_
        refine z_iadd (r := ((x + 1 : Nat):Int)) X d_Sy_go_81 (by omega) ?_
        refine z_put (ws' := (w_Sy h cA (uz r x (r (x + d))) ((x + 1 : Nat):Int) ((x + d : Nat):Int))) X hw k_Sy 0 rfl 1 (by decide) rfl rfl (Nat.le_of_ble_eq_true rfl) m_fl_Sy_17 rfl d_Sy_go_82 rfl (fun H locs hw => ?_)
        refine lv_aload_n X.1 X.2.1 d_Sy_go_85 rfl (lv_at hl 0 rfl) ?_
        refine lv_dup X.1 X.2.1 d_Sy_go_86 rfl ?_
        refine z_get X hw k_Sy 0 rfl 2 (by decide) rfl m_fl_Sy_13 rfl d_Sy_go_87 ?_
        refine z_iconst X d_Sy_go_90 ?_
        refine z_iadd (r := ((x + 1 + d : Nat):Int)) X d_Sy_go_91 (by omega) ?_
        refine z_put (ws' := (w_Sy h cA (uz r x (r (x + d))) ((x + 1 : Nat):Int) ((x + 1 + d : Nat):Int))) X hw k_Sy 0 rfl 2 (by decide) rfl rfl (Nat.le_of_ble_eq_true rfl) m_fl_Sy_13 rfl d_Sy_go_92 rfl (fun H locs hw => ?_)
        refine z_goto (tgt := 49) X d_Sy_go_95 (by decide) ?_
        exact ih (x + 1) (uz r x (r (x + d))) (by omega) (by omega) (fun j => (sX_L r x d j).trans (hi j)) H locs ls hw (lv_sub hl [0, 1] rfl)
  have lp1 : ∀ (f : Nat) (x : Nat) (r : Nat → Int), x + d ≤ 400 → x < f → (∀ j, sX r x (x + d) j = sX row yl (yl + d) j) → ∀ (H : Heap) (locs : List Loc) (ls : Array Slot), Wd D (va_A (w_Sy h cA row (yl:Int) ((yl + d : Nat):Int)) hs) s.heap (w_Sy h cA r (x:Int) ((x + d : Nat):Int)) H locs → lv_has ls 2 [(0, .ref (h 4)), (1, .int (iI (p0:Int)))] → W p l e (rM 0 0) s m ([.ref (h 4), .int (iI (p0:Int))] : List Value).toArray below meth c H locs 0 0 (MQ below (zQv (fun u : Nat → Int => ∀ j, sX u p0 (p0 + d) j = sX row yl (yl + d) j) (fun u => w_Sy h cA u (p0:Int) ((p0 + d : Nat):Int)) D (w_Sy h cA row (yl:Int) ((yl + d : Nat):Int)) hs) ([.ref (h 4), .int (iI (p0:Int))] : List Value).toArray s 0 0 (va_A (w_Sy h cA row (yl:Int) ((yl + d : Nat):Int)) hs)) (F0 m 0 ls []) := by
    intro f
    induction f with
    | zero =>
      intro x r hx hf hi H locs ls hw hl
      exfalso; omega
    | succ f ih =>
      intro x r hx hf hi H locs ls hw hl
      refine lv_aload_n X.1 X.2.1 d_Sy_go_0 rfl (lv_at hl 0 rfl) ?_
      refine z_get X hw k_Sy 0 rfl 1 (by decide) rfl m_fl_Sy_17 rfl d_Sy_go_1 ?_
      refine lv_iload_n X.1 X.2.1 d_Sy_go_4 rfl (lv_at hl 1 rfl) ?_
      refine z_icmp_le (tgt := 49) X d_Sy_go_5 (by decide) (by omega) (by omega) (fun c_5 => ?_) (fun c_5 => ?_)
      · exact lp2 (p0 + 1) x r (by omega) (by omega) hi H locs ls hw (lv_sub hl [0, 1] rfl)
      · refine lv_aload_n X.1 X.2.1 d_Sy_go_8 rfl (lv_at hl 0 rfl) ?_
        refine lv_dup X.1 X.2.1 d_Sy_go_9 rfl ?_
        refine z_get X hw k_Sy 0 rfl 1 (by decide) rfl m_fl_Sy_17 rfl d_Sy_go_10 ?_
        refine z_iconst X d_Sy_go_13 ?_
        refine z_isub (r := ((x - 1 : Nat):Int)) X d_Sy_go_14 (by omega) ?_
        refine z_put (ws' := (w_Sy h cA r ((x - 1 : Nat):Int) ((x + d : Nat):Int))) X hw k_Sy 0 rfl 1 (by decide) rfl rfl (Nat.le_of_ble_eq_true rfl) m_fl_Sy_17 rfl d_Sy_go_15 rfl (fun H locs hw => ?_)
        have hx1 : x - 1 + 1 = x := by omega
        have hb2 := hb (x - 1) (by omega)
        rw [← hi (x - 1), show sX r x (x + d) (x - 1) = r (x - 1) from congrArg r (so_l (by omega))] at hb2
        refine lv_aload_n X.1 X.2.1 d_Sy_go_18 rfl (lv_at hl 0 rfl) ?_
        refine lv_dup X.1 X.2.1 d_Sy_go_19 rfl ?_
        refine z_get X hw k_Sy 0 rfl 2 (by decide) rfl m_fl_Sy_13 rfl d_Sy_go_20 ?_
        refine z_iconst X d_Sy_go_23 ?_
        refine z_isub (r := ((x - 1 + d : Nat):Int)) X d_Sy_go_24 (by omega) ?_
        refine z_put (ws' := (w_Sy h cA r ((x - 1 : Nat):Int) ((x - 1 + d : Nat):Int))) X hw k_Sy 0 rfl 2 (by decide) rfl rfl (Nat.le_of_ble_eq_true rfl) m_fl_Sy_13 rfl d_Sy_go_25 rfl (fun H locs hw => ?_)
        refine lv_aload_n X.1 X.2.1 d_Sy_go_28 rfl (lv_at hl 0 rfl) ?_
        refine z_get X hw k_Sy 0 rfl 0 (by decide) rfl m_fl_Sy_9 rfl d_Sy_go_29 ?_
        refine lv_aload_n X.1 X.2.1 d_Sy_go_32 rfl (lv_at hl 0 rfl) ?_
        refine z_get X hw k_Sy 0 rfl 2 (by decide) rfl m_fl_Sy_13 rfl d_Sy_go_33 ?_
        refine lv_aload_n X.1 X.2.1 d_Sy_go_36 rfl (lv_at hl 0 rfl) ?_
        refine z_get X hw k_Sy 0 rfl 0 (by decide) rfl m_fl_Sy_9 rfl d_Sy_go_37 ?_
        refine lv_aload_n X.1 X.2.1 d_Sy_go_40 rfl (lv_at hl 0 rfl) ?_
        refine z_get X hw k_Sy 0 rfl 1 (by decide) rfl m_fl_Sy_17 rfl d_Sy_go_41 ?_
        refine z_bald X hw 1 rfl (x - 1) (by omega) (by omega) (by decide) d_Sy_go_44 ?_
        refine z_bast (ws' := (w_Sy h cA (uz r (x - 1 + d) (r (x - 1))) ((x - 1 : Nat):Int) ((x - 1 + d : Nat):Int))) X hw 1 rfl (x - 1 + d) (by omega) (by omega) (by decide) (by omega) d_Sy_go_45 rfl (fun H locs hw => ?_)
        refine z_goto (tgt := 0) X d_Sy_go_46 (by decide) ?_
        exact ih (x - 1) (uz r (x - 1 + d) (r (x - 1))) (by omega) (by omega) (fun j => (sX_R r (x - 1) d j).trans (by rw [hx1]; exact hi j)) H locs ls hw (lv_sub hl [0, 1] rfl)
  exact lp1 (yl + 1) yl row (by omega) (by omega) (fun j => rfl) _ _ ls hw (lv_sub hl [0, 1] rfl)
set_option maxHeartbeats 4000000 in
set_option maxRecDepth 100000 in
/-- a symbol into the gap -/
theorem c_Sy_put (l : Launch) (D : va_G) (cA : Nat → ClassId) (h : Nat → Nat) (hs : Nat) (row : Nat → Int) (yl : Nat) (yr x0 : Int) (h1 : yl < 400) (hb : -128 ≤ x0 ∧ x0 < 128) : Met l y_Sy_put (cW y_Sy_put b_Sy_put 2 none) (rM 0 0) (zP [.ref (h 4), .int (iI x0)] D cA (w_Sy h cA row (yl:Int) yr) hs) (zQv (fun _ : Unit => True) (fun _ => w_Sy h cA (uz row yl x0) ((yl + 1 : Nat):Int) yr) D (w_Sy h cA row (yl:Int) yr) hs) 0 0 (va_A (w_Sy h cA row (yl:Int) yr) hs) := by
  refine z_ofW (lv := [(0, .ref (h 4)), (1, .int (iI x0))]) (by decide) (Nat.le_of_ble_eq_true rfl) rfl ?_
  intro p e s m below meth c ls hr hlk hnm X hhs hw hl
  have X : Cx p s m ([.ref (h 4), .int (iI x0)] : List Value).toArray c b_Sy_put 2 R_Sy D cA := X
  refine lv_aload_n X.1 X.2.1 d_Sy_put_0 rfl (lv_at hl 0 rfl) ?_
  refine z_get X hw k_Sy 0 rfl 0 (by decide) rfl m_fl_Sy_9 rfl d_Sy_put_1 ?_
  refine lv_aload_n X.1 X.2.1 d_Sy_put_4 rfl (lv_at hl 0 rfl) ?_
  refine z_get X hw k_Sy 0 rfl 1 (by decide) rfl m_fl_Sy_17 rfl d_Sy_put_5 ?_
  refine lv_iload_n X.1 X.2.1 d_Sy_put_8 rfl (lv_at hl 1 rfl) ?_
  refine z_i2b X d_Sy_put_9 (by omega) ?_
  refine z_bast (ws' := (w_Sy h cA (uz row yl x0) (yl:Int) yr)) X hw 1 rfl yl (by omega) (by omega) (by decide) (by omega) d_Sy_put_10 rfl (fun H locs hw => ?_)
  refine lv_aload_n X.1 X.2.1 d_Sy_put_11 rfl (lv_at hl 0 rfl) ?_
  refine lv_dup X.1 X.2.1 d_Sy_put_12 rfl ?_
  refine z_get X hw k_Sy 0 rfl 1 (by decide) rfl m_fl_Sy_17 rfl d_Sy_put_13 ?_
  refine z_iconst X d_Sy_put_16 ?_
  refine z_iadd (r := ((yl + 1 : Nat):Int)) X d_Sy_put_17 (by omega) ?_
  refine z_put (ws' := (w_Sy h cA (uz row yl x0) ((yl + 1 : Nat):Int) yr)) X hw k_Sy 0 rfl 1 (by decide) rfl rfl (Nat.le_of_ble_eq_true rfl) m_fl_Sy_17 rfl d_Sy_put_18 rfl (fun H locs hw => ?_)
  exact z_vret X hr hlk () trivial hw d_Sy_put_21
set_option maxHeartbeats 4000000 in
set_option maxRecDepth 100000 in
/-- no symbols -/
theorem c_Sy_clear (l : Launch) (D : va_G) (cA : Nat → ClassId) (h : Nat → Nat) (hs : Nat) (yl yr : Int) : Met l y_Sy_clear (cW y_Sy_clear b_Sy_clear 1 none) (rM 0 0) (zP [.ref (h 4)] D cA (w_SyO h cA yl yr) hs) (zQv (fun _ : Unit => True) (fun _ => w_SyO h cA 0 400) D (w_SyO h cA yl yr) hs) 0 0 (va_A (w_SyO h cA yl yr) hs) := by
  refine z_ofW (lv := [(0, .ref (h 4))]) (by decide) (Nat.le_of_ble_eq_true rfl) rfl ?_
  intro p e s m below meth c ls hr hlk hnm X hhs hw hl
  have X : Cx p s m ([.ref (h 4)] : List Value).toArray c b_Sy_clear 1 R_Sy D cA := X
  refine lv_aload_n X.1 X.2.1 d_Sy_clear_0 rfl (lv_at hl 0 rfl) ?_
  refine z_iconst X d_Sy_clear_1 ?_
  refine z_put (ws' := (w_SyO h cA 0 yr)) X hw k_Sy 0 rfl 1 (by decide) rfl rfl (Nat.le_of_ble_eq_true rfl) m_fl_Sy_17 rfl d_Sy_clear_2 rfl (fun H locs hw => ?_)
  refine lv_aload_n X.1 X.2.1 d_Sy_clear_5 rfl (lv_at hl 0 rfl) ?_
  refine z_sipush X d_Sy_clear_6 (by decide) ?_
  refine z_put (ws' := (w_SyO h cA 0 400)) X hw k_Sy 0 rfl 2 (by decide) rfl rfl (Nat.le_of_ble_eq_true rfl) m_fl_Sy_13 rfl d_Sy_clear_9 rfl (fun H locs hw => ?_)
  exact z_vret X hr hlk () trivial hw d_Sy_clear_12
set_option maxHeartbeats 4000000 in
set_option maxRecDepth 100000 in
/-- new symbols -/
theorem c_Sy_init (l : Launch) (D : va_G) (cA : Nat → ClassId)  (hs : Nat) (q : Nat) : Met l y_Sy_init (cW y_Sy_init b_Sy_init 1 none) { frames := 1, cells := 1, slots := 400, locals := 12 } (zP [.ref q] D cA [(q, .inr (1, [.null, .int (iI 0), .int (iI 0)]))] hs) (zQv (fun _ : Nat => True) (fun u => [(q, .inr (1, [.ref u, .int (iI 0), .int (iI 400)])), (u, .inl (cA 0, 400, .inl (zf (fun _ => 0))))]) D [(q, .inr (1, [.null, .int (iI 0), .int (iI 0)]))] hs) 1 400 (va_A [(q, .inr (1, [.null, .int (iI 0), .int (iI 0)]))] hs) := by
  refine z_ofW (lv := [(0, .ref q)]) (by decide) (Nat.le_of_ble_eq_true rfl) rfl ?_
  intro p e s m below meth c ls hr hlk hnm X hhs hw hl
  have X : Cx p s m ([.ref q] : List Value).toArray c b_Sy_init 1 R_Sy D cA := X
  refine lv_aload_n X.1 X.2.1 d_Sy_init_0 rfl (lv_at hl 0 rfl) ?_
  refine z_objInit X m_ml_Sy_1 hl.1 d_Sy_init_1 (Nat.le_of_ble_eq_true rfl) (Nat.le_of_ble_eq_true rfl) ?_
  refine lv_aload_n X.1 X.2.1 d_Sy_init_4 rfl (lv_at hl 0 rfl) ?_
  refine z_sipush X d_Sy_init_5 (by decide) ?_
  refine z_newa X hw (ty := .byte) rfl m_ac_byte 0 rfl (fun C h => by cases h) 400 (by decide) (fun _ => rfl) rfl (by decide) (Nat.le_of_ble_eq_true rfl) (Nat.le_of_ble_eq_true rfl) d_Sy_init_8 (fun q_8 H hw => ?_)
  refine W.widen (k := 1) (n := 400) (by decide) (by decide) ?_
  have hw : Wd D (va_A [(q, .inr (1, [.null, .int (iI 0), .int (iI 0)]))] hs) s.heap [(q, .inr (1, [.null, .int (iI 0), .int (iI 0)])), (q_8, .inl (cA 0, 400, .inl (zf (fun _ => 0))))] H _ := hw
  refine z_putF (ws' := [(q, .inr (1, [.ref q_8, .int (iI 0), .int (iI 0)])), (q_8, .inl (cA 0, 400, .inl (zf (fun _ => 0))))]) X hw hnm k_Sy 0 rfl 0 (by decide) rfl rfl rfl rfl (Nat.le_of_ble_eq_true rfl) m_fl_Sy_9 rfl d_Sy_init_10 rfl (fun H locs hw => ?_)
  refine lv_aload_n X.1 X.2.1 d_Sy_init_13 rfl (lv_at hl 0 rfl) ?_
  refine z_sipush X d_Sy_init_14 (by decide) ?_
  refine z_put (ws' := [(q, .inr (1, [.ref q_8, .int (iI 0), .int (iI 400)])), (q_8, .inl (cA 0, 400, .inl (zf (fun _ => 0))))]) X hw k_Sy 0 rfl 2 (by decide) rfl rfl (Nat.le_of_ble_eq_true rfl) m_fl_Sy_13 rfl d_Sy_init_17 rfl (fun H locs hw => ?_)
  exact z_vret X hr hlk q_8 trivial hw d_Sy_init_20
end
section
set_option maxHeartbeats 4000000 in
set_option maxRecDepth 100000 in
/-- how many -/
theorem c_Sn_size (l : Launch) (D : va_G) (cA : Nat → ClassId) (h : Nat → Nat) (hs : Nat) (cl cr : Int) : Met l y_Sn_size (cW y_Sn_size b_Sn_size 1 (some .int)) (rM 0 0) (zP [.ref (h 6)] D cA (w_SnO h cA cl cr) hs) (Qro (fun z => z = cl + 401 - cr)) 0 0 (fun _ => False) := by
  refine z_ofW (lv := [(0, .ref (h 6))]) (by decide) (Nat.le_of_ble_eq_true rfl) rfl ?_
  intro p e s m below meth c ls hr hlk hnm X hhs hw hl
  have X : Cx p s m ([.ref (h 6)] : List Value).toArray c b_Sn_size 1 R_Sn D cA := X
  refine lv_aload_n X.1 X.2.1 d_Sn_size_0 rfl (lv_at hl 0 rfl) ?_
  refine z_get X hw k_Sn 0 rfl 4 (by decide) rfl m_fl_Sn_28 rfl d_Sn_size_1 ?_
  refine z_sipush X d_Sn_size_4 (by decide) ?_
  refine z_iadd (r := (cl + 401)) X d_Sn_size_7 rfl ?_
  refine lv_aload_n X.1 X.2.1 d_Sn_size_8 rfl (lv_at hl 0 rfl) ?_
  refine z_get X hw k_Sn 0 rfl 5 (by decide) rfl m_fl_Sn_24 rfl d_Sn_size_9 ?_
  refine z_isub (r := ((cl + 401) - cr)) X d_Sn_size_12 rfl ?_
  exact z_iretR X hr hlk rfl rfl d_Sn_size_13
set_option maxHeartbeats 4000000 in
set_option maxRecDepth 100000 in
/-- where the i-th one lies -/
theorem c_Sn_slot (l : Launch) (D : va_G) (cA : Nat → ClassId) (h : Nat → Nat) (hs : Nat) (cl cr i : Nat) (hi : i < 1000) (hcl : cl < 1000) (hcr : cr < 1000) : Met l y_Sn_slot (cW y_Sn_slot b_Sn_slot 2 (some .int)) (rM 0 0) (zP [.ref (h 6), .int (iI (i:Int))] D cA (w_SnO h cA (cl:Int) (cr:Int)) hs) (Qro (fun z => z = ((so cl cr i : Nat) : Int))) 0 0 (fun _ => False) := by
  refine z_ofW (lv := [(0, .ref (h 6)), (1, .int (iI (i:Int)))]) (by decide) (Nat.le_of_ble_eq_true rfl) rfl ?_
  intro p e s m below meth c ls hr hlk hnm X hhs hw hl
  have X : Cx p s m ([.ref (h 6), .int (iI (i:Int))] : List Value).toArray c b_Sn_slot 2 R_Sn D cA := X
  refine lv_iload_n X.1 X.2.1 d_Sn_slot_0 rfl (lv_at hl 1 rfl) ?_
  refine lv_aload_n X.1 X.2.1 d_Sn_slot_1 rfl (lv_at hl 0 rfl) ?_
  refine z_get X hw k_Sn 0 rfl 4 (by decide) rfl m_fl_Sn_28 rfl d_Sn_slot_2 ?_
  refine z_icmp_ge (tgt := 12) X d_Sn_slot_5 (by decide) (by omega) (by omega) (fun c_5 => ?_) (fun c_5 => ?_)
  · refine lv_iload_n X.1 X.2.1 d_Sn_slot_12 rfl (lv_at hl 1 rfl) ?_
    refine lv_aload_n X.1 X.2.1 d_Sn_slot_13 rfl (lv_at hl 0 rfl) ?_
    refine z_get X hw k_Sn 0 rfl 4 (by decide) rfl m_fl_Sn_28 rfl d_Sn_slot_14 ?_
    refine z_isub (r := ((i:Int) - (cl:Int))) X d_Sn_slot_17 rfl ?_
    refine lv_aload_n X.1 X.2.1 d_Sn_slot_18 rfl (lv_at hl 0 rfl) ?_
    refine z_get X hw k_Sn 0 rfl 5 (by decide) rfl m_fl_Sn_24 rfl d_Sn_slot_19 ?_
    refine z_iadd (r := (((i:Int) - (cl:Int)) + (cr:Int))) X d_Sn_slot_22 rfl ?_
    exact z_iretR X hr hlk rfl (by rw [so_r (by omega)]; omega) d_Sn_slot_23
  · refine lv_iload_n X.1 X.2.1 d_Sn_slot_8 rfl (lv_at hl 1 rfl) ?_
    refine z_goto (tgt := 23) X d_Sn_slot_9 (by decide) ?_
    exact z_iretR X hr hlk rfl (by rw [so_l (by omega)]) d_Sn_slot_23
set_option maxHeartbeats 4000000 in
set_option maxRecDepth 100000 in
/-- where the i-th one begins -/
theorem c_Sn_place (l : Launch) (D : va_G) (cA : Nat → ClassId) (h : Nat → Nat) (hs : Nat) (P : Nat → Int) (cl cr i : Nat) (en : Int) (hi : i < 1000) (hcl : cl < 1000) (hcr : cr < 1000) (hso : so cl cr i < 401) : Met l y_Sn_place (cW y_Sn_place b_Sn_place 3 (some .int)) (rM 1 21) (zP [.ref (h 6), .int (iI (i:Int)), .int (iI en)] D cA (w_SnP h cA P (cl:Int) (cr:Int)) hs) (Qro (fun z => z = sP P cl cr en i)) 0 0 (fun _ => False) := by
  refine z_ofW (lv := [(0, .ref (h 6)), (1, .int (iI (i:Int))), (2, .int (iI en))]) (by decide) (Nat.le_of_ble_eq_true rfl) rfl ?_
  intro p e s m below meth c ls hr hlk hnm X hhs hw hl
  have X : Cx p s m ([.ref (h 6), .int (iI (i:Int)), .int (iI en)] : List Value).toArray c b_Sn_place 3 R_Sn D cA := X
  refine lv_iload_n X.1 X.2.1 d_Sn_place_0 rfl (lv_at hl 1 rfl) ?_
  refine lv_aload_n X.1 X.2.1 d_Sn_place_1 rfl (lv_at hl 0 rfl) ?_
  refine z_get X hw k_Sn 0 rfl 4 (by decide) rfl m_fl_Sn_28 rfl d_Sn_place_2 ?_
  refine z_icmp_ge (tgt := 17) X d_Sn_place_5 (by decide) (by omega) (by omega) (fun c_5 => ?_) (fun c_5 => ?_)
  · refine lv_iload_n X.1 X.2.1 d_Sn_place_17 rfl (lv_at hl 2 rfl) ?_
    refine lv_aload_n X.1 X.2.1 d_Sn_place_18 rfl (lv_at hl 0 rfl) ?_
    refine z_get X hw k_Sn 0 rfl 0 (by decide) rfl m_fl_Sn_9 rfl d_Sn_place_19 ?_
    refine lv_aload_n X.1 X.2.1 d_Sn_place_22 rfl (lv_at hl 0 rfl) ?_
    refine lv_iload_n X.1 X.2.1 d_Sn_place_23 rfl (lv_at hl 1 rfl) ?_
    refine z_callR (rest := [.ref (h 7), .int (iI en)]) X hw k_Sn v_Sn_31 [.int (iI (i:Int))] (c_Sn_slot l D cA h _ cl cr i (by omega) (by omega) (by omega)) 0 rfl [0] rfl rfl rfl rfl hl.1 rfl (Nat.le_of_ble_eq_true rfl) ⟨rfl, rfl, Nat.le_of_ble_eq_true rfl, Nat.le_of_ble_eq_true rfl⟩ ⟨Nat.le_of_ble_eq_true rfl, Nat.le_of_ble_eq_true rfl⟩ d_Sn_place_24 (fun z_24 hz_24 => ?_)
    subst hz_24
    refine z_iald X hw 1 rfl (so cl cr i) (by omega) (by omega) (by decide) d_Sn_place_27 ?_
    refine z_isub (r := (en - (P (so cl cr i)))) X d_Sn_place_28 rfl ?_
    exact z_iretR X hr hlk rfl (by unfold sP; rw [if_neg (by omega)]) d_Sn_place_29
  · refine lv_aload_n X.1 X.2.1 d_Sn_place_8 rfl (lv_at hl 0 rfl) ?_
    refine z_get X hw k_Sn 0 rfl 0 (by decide) rfl m_fl_Sn_9 rfl d_Sn_place_9 ?_
    refine lv_iload_n X.1 X.2.1 d_Sn_place_12 rfl (lv_at hl 1 rfl) ?_
    refine z_iald X hw 1 rfl i (by first | omega | (rw [so_l (by omega)] at hso; omega)) (by first | omega | (rw [so_l (by omega)] at hso; omega)) (by decide) d_Sn_place_13 ?_
    refine z_goto (tgt := 29) X d_Sn_place_14 (by decide) ?_
    exact z_iretR X hr hlk rfl (by unfold sP; rw [if_pos (by omega)]) d_Sn_place_29
set_option maxHeartbeats 4000000 in
set_option maxRecDepth 100000 in
/-- one goes from a slot to another -/
theorem c_Sn_move (l : Launch) (D : va_G) (cA : Nat → ClassId) (h : Nat → Nat) (hs : Nat) (P S L K : Nat → Int) (cl cr pl : Int) (fr to : Nat) (hf : fr < 401) (ht : to < 401) (hS : -32768 ≤ S fr ∧ S fr < 32768) (hL : -32768 ≤ L fr ∧ L fr < 32768) (hK : -128 ≤ K fr ∧ K fr < 128) : Met l y_Sn_move (cW y_Sn_move b_Sn_move 4 none) (rM 0 0) (zP [.ref (h 6), .int (iI (fr:Int)), .int (iI (to:Int)), .int (iI pl)] D cA (w_Sn h cA P S L K cl cr) hs) (zQv (fun _ : Unit => True) (fun _ => w_Sn h cA (uz P to pl) (uz S to (S fr)) (uz L to (L fr)) (uz K to (K fr)) cl cr) D (w_Sn h cA P S L K cl cr) hs) 0 0 (va_A (w_Sn h cA P S L K cl cr) hs) := by
  refine z_ofW (lv := [(0, .ref (h 6)), (1, .int (iI (fr:Int))), (2, .int (iI (to:Int))), (3, .int (iI pl))]) (by decide) (Nat.le_of_ble_eq_true rfl) rfl ?_
  intro p e s m below meth c ls hr hlk hnm X hhs hw hl
  have X : Cx p s m ([.ref (h 6), .int (iI (fr:Int)), .int (iI (to:Int)), .int (iI pl)] : List Value).toArray c b_Sn_move 4 R_Sn D cA := X
  refine lv_aload_n X.1 X.2.1 d_Sn_move_0 rfl (lv_at hl 0 rfl) ?_
  refine z_get X hw k_Sn 0 rfl 0 (by decide) rfl m_fl_Sn_9 rfl d_Sn_move_1 ?_
  refine lv_iload_n X.1 X.2.1 d_Sn_move_4 rfl (lv_at hl 2 rfl) ?_
  refine lv_iload_n X.1 X.2.1 d_Sn_move_5 rfl (lv_at hl 3 rfl) ?_
  refine z_iast (ws' := (w_Sn h cA (uz P to pl) S L K cl cr)) X hw 1 rfl to (by omega) (by omega) (by decide) d_Sn_move_6 rfl (fun H locs hw => ?_)
  refine lv_aload_n X.1 X.2.1 d_Sn_move_7 rfl (lv_at hl 0 rfl) ?_
  refine z_get X hw k_Sn 0 rfl 1 (by decide) rfl m_fl_Sn_13 rfl d_Sn_move_8 ?_
  refine lv_iload_n X.1 X.2.1 d_Sn_move_11 rfl (lv_at hl 2 rfl) ?_
  refine lv_aload_n X.1 X.2.1 d_Sn_move_12 rfl (lv_at hl 0 rfl) ?_
  refine z_get X hw k_Sn 0 rfl 1 (by decide) rfl m_fl_Sn_13 rfl d_Sn_move_13 ?_
  refine lv_iload_n X.1 X.2.1 d_Sn_move_16 rfl (lv_at hl 1 rfl) ?_
  refine z_sald X hw 2 rfl fr (by omega) (by omega) (by decide) d_Sn_move_17 ?_
  refine z_sast (ws' := (w_Sn h cA (uz P to pl) (uz S to (S fr)) L K cl cr)) X hw 2 rfl to (by omega) (by omega) (by decide) (by omega) d_Sn_move_18 rfl (fun H locs hw => ?_)
  refine lv_aload_n X.1 X.2.1 d_Sn_move_19 rfl (lv_at hl 0 rfl) ?_
  refine z_get X hw k_Sn 0 rfl 2 (by decide) rfl m_fl_Sn_17 rfl d_Sn_move_20 ?_
  refine lv_iload_n X.1 X.2.1 d_Sn_move_23 rfl (lv_at hl 2 rfl) ?_
  refine lv_aload_n X.1 X.2.1 d_Sn_move_24 rfl (lv_at hl 0 rfl) ?_
  refine z_get X hw k_Sn 0 rfl 2 (by decide) rfl m_fl_Sn_17 rfl d_Sn_move_25 ?_
  refine lv_iload_n X.1 X.2.1 d_Sn_move_28 rfl (lv_at hl 1 rfl) ?_
  refine z_sald X hw 3 rfl fr (by omega) (by omega) (by decide) d_Sn_move_29 ?_
  refine z_sast (ws' := (w_Sn h cA (uz P to pl) (uz S to (S fr)) (uz L to (L fr)) K cl cr)) X hw 3 rfl to (by omega) (by omega) (by decide) (by omega) d_Sn_move_30 rfl (fun H locs hw => ?_)
  refine lv_aload_n X.1 X.2.1 d_Sn_move_31 rfl (lv_at hl 0 rfl) ?_
  refine z_get X hw k_Sn 0 rfl 3 (by decide) rfl m_fl_Sn_20 rfl d_Sn_move_32 ?_
  refine lv_iload_n X.1 X.2.1 d_Sn_move_35 rfl (lv_at hl 2 rfl) ?_
  refine lv_aload_n X.1 X.2.1 d_Sn_move_36 rfl (lv_at hl 0 rfl) ?_
  refine z_get X hw k_Sn 0 rfl 3 (by decide) rfl m_fl_Sn_20 rfl d_Sn_move_37 ?_
  refine lv_iload_n X.1 X.2.1 d_Sn_move_40 rfl (lv_at hl 1 rfl) ?_
  refine z_bald X hw 4 rfl fr (by omega) (by omega) (by decide) d_Sn_move_41 ?_
  refine z_bast (ws' := (w_Sn h cA (uz P to pl) (uz S to (S fr)) (uz L to (L fr)) (uz K to (K fr)) cl cr)) X hw 4 rfl to (by omega) (by omega) (by decide) (by omega) d_Sn_move_42 rfl (fun H locs hw => ?_)
  exact z_vret X hr hlk () trivial hw d_Sn_move_43
set_option maxHeartbeats 4000000 in
set_option maxRecDepth 100000 in
/-- the i-th one is the first on the right -/
theorem c_Sn_go (l : Launch) (D : va_G) (cA : Nat → ClassId) (h : Nat → Nat) (hs : Nat) (P S L K : Nat → Int) (cl d i0 : Nat) (en : Int) (h1 : cl + d ≤ 401) (h2 : i0 + d ≤ 401) (hS : ∀ j, j + d < 401 → -32768 ≤ sX S cl (cl + d) j ∧ sX S cl (cl + d) j < 32768) (hL : ∀ j, j + d < 401 → -32768 ≤ sX L cl (cl + d) j ∧ sX L cl (cl + d) j < 32768) (hK : ∀ j, j + d < 401 → -128 ≤ sX K cl (cl + d) j ∧ sX K cl (cl + d) j < 128) : Met l y_Sn_go (cW y_Sn_go b_Sn_go 3 none) (rM 1 23) (zP [.ref (h 6), .int (iI (i0:Int)), .int (iI en)] D cA (w_Sn h cA P S L K (cl:Int) ((cl + d : Nat):Int)) hs) (zQv (fun u : (Nat → Int) × (Nat → Int) × (Nat → Int) × (Nat → Int) => (∀ j, sP u.1 i0 (i0 + d) en j = sP P cl (cl + d) en j) ∧ (∀ j, sX u.2.1 i0 (i0 + d) j = sX S cl (cl + d) j) ∧ (∀ j, sX u.2.2.1 i0 (i0 + d) j = sX L cl (cl + d) j) ∧ ∀ j, sX u.2.2.2 i0 (i0 + d) j = sX K cl (cl + d) j) (fun u => w_Sn h cA u.1 u.2.1 u.2.2.1 u.2.2.2 (i0:Int) ((i0 + d : Nat):Int)) D (w_Sn h cA P S L K (cl:Int) ((cl + d : Nat):Int)) hs) 0 0 (va_A (w_Sn h cA P S L K (cl:Int) ((cl + d : Nat):Int)) hs) := by
  refine z_ofW (lv := [(0, .ref (h 6)), (1, .int (iI (i0:Int))), (2, .int (iI en))]) (by decide) (Nat.le_of_ble_eq_true rfl) rfl ?_
  intro p e s m below meth c ls hr hlk hnm X hhs hw hl
  have X : Cx p s m ([.ref (h 6), .int (iI (i0:Int)), .int (iI en)] : List Value).toArray c b_Sn_go 3 R_Sn D cA := X
  have lp2 : ∀ (f : Nat) (x : Nat) (p1 s1 l1 k1 : Nat → Int), x ≤ i0 → i0 < f + x → ((∀ j, sP p1 x (x + d) en j = sP P cl (cl + d) en j) ∧ (∀ j, sX s1 x (x + d) j = sX S cl (cl + d) j) ∧ (∀ j, sX l1 x (x + d) j = sX L cl (cl + d) j) ∧ ∀ j, sX k1 x (x + d) j = sX K cl (cl + d) j) → ∀ (H : Heap) (locs : List Loc) (ls : Array Slot), Wd D (va_A (w_Sn h cA P S L K (cl:Int) ((cl + d : Nat):Int)) hs) s.heap (w_Sn h cA p1 s1 l1 k1 (x:Int) ((x + d : Nat):Int)) H locs → lv_has ls 3 [(0, .ref (h 6)), (1, .int (iI (i0:Int))), (2, .int (iI en))] → W p l e (rM 1 23) s m ([.ref (h 6), .int (iI (i0:Int)), .int (iI en)] : List Value).toArray below meth c H locs 0 0 (MQ below (zQv (fun u : (Nat → Int) × (Nat → Int) × (Nat → Int) × (Nat → Int) => (∀ j, sP u.1 i0 (i0 + d) en j = sP P cl (cl + d) en j) ∧ (∀ j, sX u.2.1 i0 (i0 + d) j = sX S cl (cl + d) j) ∧ (∀ j, sX u.2.2.1 i0 (i0 + d) j = sX L cl (cl + d) j) ∧ ∀ j, sX u.2.2.2 i0 (i0 + d) j = sX K cl (cl + d) j) (fun u => w_Sn h cA u.1 u.2.1 u.2.2.1 u.2.2.2 (i0:Int) ((i0 + d : Nat):Int)) D (w_Sn h cA P S L K (cl:Int) ((cl + d : Nat):Int)) hs) ([.ref (h 6), .int (iI (i0:Int)), .int (iI en)] : List Value).toArray s 0 0 (va_A (w_Sn h cA P S L K (cl:Int) ((cl + d : Nat):Int)) hs)) (F0 m 54 ls []) := by
    intro f
    induction f with
    | zero =>
      intro x p1 s1 l1 k1 hx hf hi H locs ls hw hl
      exfalso; omega
    | succ f ih =>
      intro x p1 s1 l1 k1 hx hf hi H locs ls hw hl
      refine lv_aload_n X.1 X.2.1 d_Sn_go_54 rfl (lv_at hl 0 rfl) ?_
      refine z_get X hw k_Sn 0 rfl 4 (by decide) rfl m_fl_Sn_28 rfl d_Sn_go_55 ?_
      refine lv_iload_n X.1 X.2.1 d_Sn_go_58 rfl (lv_at hl 1 rfl) ?_
      refine z_icmp_ge (tgt := 108) X d_Sn_go_59 (by decide) (by omega) (by omega) (fun c_59 => ?_) (fun c_59 => ?_)
      · obtain rfl : x = i0 := by omega
        exact z_vret X hr hlk (p1, s1, l1, k1) hi hw d_Sn_go_108
      · have hS2 := hS x (by omega)
        rw [← hi.2.1 x, show sX s1 x (x + d) x = s1 (x + d) from congrArg s1 ((so_r (by omega)).trans (by omega))] at hS2
        have hL2 := hL x (by omega)
        rw [← hi.2.2.1 x, show sX l1 x (x + d) x = l1 (x + d) from congrArg l1 ((so_r (by omega)).trans (by omega))] at hL2
        have hK2 := hK x (by omega)
        rw [← hi.2.2.2 x, show sX k1 x (x + d) x = k1 (x + d) from congrArg k1 ((so_r (by omega)).trans (by omega))] at hK2
        refine lv_aload_n X.1 X.2.1 d_Sn_go_62 rfl (lv_at hl 0 rfl) ?_
        refine lv_aload_n X.1 X.2.1 d_Sn_go_63 rfl (lv_at hl 0 rfl) ?_
        refine z_get X hw k_Sn 0 rfl 5 (by decide) rfl m_fl_Sn_24 rfl d_Sn_go_64 ?_
        refine lv_aload_n X.1 X.2.1 d_Sn_go_67 rfl (lv_at hl 0 rfl) ?_
        refine z_get X hw k_Sn 0 rfl 4 (by decide) rfl m_fl_Sn_28 rfl d_Sn_go_68 ?_
        refine lv_iload_n X.1 X.2.1 d_Sn_go_71 rfl (lv_at hl 2 rfl) ?_
        refine lv_aload_n X.1 X.2.1 d_Sn_go_72 rfl (lv_at hl 0 rfl) ?_
        refine z_get X hw k_Sn 0 rfl 0 (by decide) rfl m_fl_Sn_9 rfl d_Sn_go_73 ?_
        refine lv_aload_n X.1 X.2.1 d_Sn_go_76 rfl (lv_at hl 0 rfl) ?_
        refine z_get X hw k_Sn 0 rfl 5 (by decide) rfl m_fl_Sn_24 rfl d_Sn_go_77 ?_
        refine z_iald X hw 1 rfl (x + d) (by omega) (by omega) (by decide) d_Sn_go_80 ?_
        refine z_isub (r := (en - (p1 (x + d)))) X d_Sn_go_81 rfl ?_
        refine z_afterV (w2 := fun u => (w_Sn h cA (uz p1 x (en - (p1 (x + d)))) (uz s1 x (s1 (x + d))) (uz l1 x (l1 (x + d))) (uz k1 x (k1 (x + d))) (x:Int) ((x + d : Nat):Int))) (wr := []) hw (z_runV (rest := []) X hw k_Sn v_Sn_35 [.int (iI ((x + d : Nat):Int)), .int (iI (x:Int)), .int (iI (en - (p1 (x + d))))] (c_Sn_move l D cA h _ p1 s1 l1 k1 (x:Int) ((x + d : Nat):Int) (en - (p1 (x + d))) (x + d) x (by omega) (by omega) hS2 hL2 hK2) 0 rfl [0, 1, 2, 3, 4] rfl rfl rfl rfl hl.1 rfl (Nat.le_of_ble_eq_true rfl) ⟨rfl, rfl, Nat.le_of_ble_eq_true rfl, Nat.le_of_ble_eq_true rfl⟩ ⟨Nat.le_of_ble_eq_true rfl, Nat.le_of_ble_eq_true rfl⟩ d_Sn_go_82) [0, 1, 2, 3, 4] [] [0, 1, 2, 3, 4] rfl rfl rfl (by decide) rfl (fun _ => rfl) (fun _ => rfl) (fun u_82 H locs hu_82 hw => ?_)
        refine lv_aload_n X.1 X.2.1 d_Sn_go_85 rfl (lv_at hl 0 rfl) ?_
        refine lv_dup X.1 X.2.1 d_Sn_go_86 rfl ?_
        refine z_get X hw k_Sn 0 rfl 4 (by decide) rfl m_fl_Sn_28 rfl d_Sn_go_87 ?_
        refine z_iconst X d_Sn_go_90 ?_
        refine z_iadd (r := ((x + 1 : Nat):Int)) X d_Sn_go_91 (by omega) ?_
        refine z_put (ws' := (w_Sn h cA (uz p1 x (en - (p1 (x + d)))) (uz s1 x (s1 (x + d))) (uz l1 x (l1 (x + d))) (uz k1 x (k1 (x + d))) ((x + 1 : Nat):Int) ((x + d : Nat):Int))) X hw k_Sn 0 rfl 4 (by decide) rfl rfl (Nat.le_of_ble_eq_true rfl) m_fl_Sn_28 rfl d_Sn_go_92 rfl (fun H locs hw => ?_)
        refine lv_aload_n X.1 X.2.1 d_Sn_go_95 rfl (lv_at hl 0 rfl) ?_
        refine lv_dup X.1 X.2.1 d_Sn_go_96 rfl ?_
        refine z_get X hw k_Sn 0 rfl 5 (by decide) rfl m_fl_Sn_24 rfl d_Sn_go_97 ?_
        refine z_iconst X d_Sn_go_100 ?_
        refine z_iadd (r := ((x + 1 + d : Nat):Int)) X d_Sn_go_101 (by omega) ?_
        refine z_put (ws' := (w_Sn h cA (uz p1 x (en - (p1 (x + d)))) (uz s1 x (s1 (x + d))) (uz l1 x (l1 (x + d))) (uz k1 x (k1 (x + d))) ((x + 1 : Nat):Int) ((x + 1 + d : Nat):Int))) X hw k_Sn 0 rfl 5 (by decide) rfl rfl (Nat.le_of_ble_eq_true rfl) m_fl_Sn_24 rfl d_Sn_go_102 rfl (fun H locs hw => ?_)
        refine z_goto (tgt := 54) X d_Sn_go_105 (by decide) ?_
        exact ih (x + 1) (uz p1 x (en - p1 (x + d))) (uz s1 x (s1 (x + d))) (uz l1 x (l1 (x + d))) (uz k1 x (k1 (x + d))) (by omega) (by omega) ⟨fun j => (sP_L p1 x d j en).trans (hi.1 j), fun j => (sX_L s1 x d j).trans (hi.2.1 j), fun j => (sX_L l1 x d j).trans (hi.2.2.1 j), fun j => (sX_L k1 x d j).trans (hi.2.2.2 j)⟩ H locs ls hw (lv_sub hl [0, 1, 2] rfl)
  have lp1 : ∀ (f : Nat) (x : Nat) (p1 s1 l1 k1 : Nat → Int), x + d ≤ 401 → x < f → ((∀ j, sP p1 x (x + d) en j = sP P cl (cl + d) en j) ∧ (∀ j, sX s1 x (x + d) j = sX S cl (cl + d) j) ∧ (∀ j, sX l1 x (x + d) j = sX L cl (cl + d) j) ∧ ∀ j, sX k1 x (x + d) j = sX K cl (cl + d) j) → ∀ (H : Heap) (locs : List Loc) (ls : Array Slot), Wd D (va_A (w_Sn h cA P S L K (cl:Int) ((cl + d : Nat):Int)) hs) s.heap (w_Sn h cA p1 s1 l1 k1 (x:Int) ((x + d : Nat):Int)) H locs → lv_has ls 3 [(0, .ref (h 6)), (1, .int (iI (i0:Int))), (2, .int (iI en))] → W p l e (rM 1 23) s m ([.ref (h 6), .int (iI (i0:Int)), .int (iI en)] : List Value).toArray below meth c H locs 0 0 (MQ below (zQv (fun u : (Nat → Int) × (Nat → Int) × (Nat → Int) × (Nat → Int) => (∀ j, sP u.1 i0 (i0 + d) en j = sP P cl (cl + d) en j) ∧ (∀ j, sX u.2.1 i0 (i0 + d) j = sX S cl (cl + d) j) ∧ (∀ j, sX u.2.2.1 i0 (i0 + d) j = sX L cl (cl + d) j) ∧ ∀ j, sX u.2.2.2 i0 (i0 + d) j = sX K cl (cl + d) j) (fun u => w_Sn h cA u.1 u.2.1 u.2.2.1 u.2.2.2 (i0:Int) ((i0 + d : Nat):Int)) D (w_Sn h cA P S L K (cl:Int) ((cl + d : Nat):Int)) hs) ([.ref (h 6), .int (iI (i0:Int)), .int (iI en)] : List Value).toArray s 0 0 (va_A (w_Sn h cA P S L K (cl:Int) ((cl + d : Nat):Int)) hs)) (F0 m 0 ls []) := by
    intro f
    induction f with
    | zero =>
      intro x p1 s1 l1 k1 hx hf hi H locs ls hw hl
      exfalso; omega
    | succ f ih =>
      intro x p1 s1 l1 k1 hx hf hi H locs ls hw hl
      refine lv_aload_n X.1 X.2.1 d_Sn_go_0 rfl (lv_at hl 0 rfl) ?_
      refine z_get X hw k_Sn 0 rfl 4 (by decide) rfl m_fl_Sn_28 rfl d_Sn_go_1 ?_
      refine lv_iload_n X.1 X.2.1 d_Sn_go_4 rfl (lv_at hl 1 rfl) ?_
      refine z_icmp_le (tgt := 54) X d_Sn_go_5 (by decide) (by omega) (by omega) (fun c_5 => ?_) (fun c_5 => ?_)
      · exact lp2 (i0 + 1) x p1 s1 l1 k1 (by omega) (by omega) hi H locs ls hw (lv_sub hl [0, 1, 2] rfl)
      · refine lv_aload_n X.1 X.2.1 d_Sn_go_8 rfl (lv_at hl 0 rfl) ?_
        refine lv_dup X.1 X.2.1 d_Sn_go_9 rfl ?_
        refine z_get X hw k_Sn 0 rfl 4 (by decide) rfl m_fl_Sn_28 rfl d_Sn_go_10 ?_
        refine z_iconst X d_Sn_go_13 ?_
        refine z_isub (r := ((x - 1 : Nat):Int)) X d_Sn_go_14 (by omega) ?_
        refine z_put (ws' := (w_Sn h cA p1 s1 l1 k1 ((x - 1 : Nat):Int) ((x + d : Nat):Int))) X hw k_Sn 0 rfl 4 (by decide) rfl rfl (Nat.le_of_ble_eq_true rfl) m_fl_Sn_28 rfl d_Sn_go_15 rfl (fun H locs hw => ?_)
        have hx1 : x - 1 + 1 = x := by omega
        have hS2 := hS (x - 1) (by omega)
        rw [← hi.2.1 (x - 1), show sX s1 x (x + d) (x - 1) = s1 (x - 1) from congrArg s1 (so_l (by omega))] at hS2
        have hL2 := hL (x - 1) (by omega)
        rw [← hi.2.2.1 (x - 1), show sX l1 x (x + d) (x - 1) = l1 (x - 1) from congrArg l1 (so_l (by omega))] at hL2
        have hK2 := hK (x - 1) (by omega)
        rw [← hi.2.2.2 (x - 1), show sX k1 x (x + d) (x - 1) = k1 (x - 1) from congrArg k1 (so_l (by omega))] at hK2
        refine lv_aload_n X.1 X.2.1 d_Sn_go_18 rfl (lv_at hl 0 rfl) ?_
        refine lv_dup X.1 X.2.1 d_Sn_go_19 rfl ?_
        refine z_get X hw k_Sn 0 rfl 5 (by decide) rfl m_fl_Sn_24 rfl d_Sn_go_20 ?_
        refine z_iconst X d_Sn_go_23 ?_
        refine z_isub (r := ((x - 1 + d : Nat):Int)) X d_Sn_go_24 (by omega) ?_
        refine z_put (ws' := (w_Sn h cA p1 s1 l1 k1 ((x - 1 : Nat):Int) ((x - 1 + d : Nat):Int))) X hw k_Sn 0 rfl 5 (by decide) rfl rfl (Nat.le_of_ble_eq_true rfl) m_fl_Sn_24 rfl d_Sn_go_25 rfl (fun H locs hw => ?_)
        refine lv_aload_n X.1 X.2.1 d_Sn_go_28 rfl (lv_at hl 0 rfl) ?_
        refine lv_aload_n X.1 X.2.1 d_Sn_go_29 rfl (lv_at hl 0 rfl) ?_
        refine z_get X hw k_Sn 0 rfl 4 (by decide) rfl m_fl_Sn_28 rfl d_Sn_go_30 ?_
        refine lv_aload_n X.1 X.2.1 d_Sn_go_33 rfl (lv_at hl 0 rfl) ?_
        refine z_get X hw k_Sn 0 rfl 5 (by decide) rfl m_fl_Sn_24 rfl d_Sn_go_34 ?_
        refine lv_iload_n X.1 X.2.1 d_Sn_go_37 rfl (lv_at hl 2 rfl) ?_
        refine lv_aload_n X.1 X.2.1 d_Sn_go_38 rfl (lv_at hl 0 rfl) ?_
        refine z_get X hw k_Sn 0 rfl 0 (by decide) rfl m_fl_Sn_9 rfl d_Sn_go_39 ?_
        refine lv_aload_n X.1 X.2.1 d_Sn_go_42 rfl (lv_at hl 0 rfl) ?_
        refine z_get X hw k_Sn 0 rfl 4 (by decide) rfl m_fl_Sn_28 rfl d_Sn_go_43 ?_
        refine z_iald X hw 1 rfl (x - 1) (by omega) (by omega) (by decide) d_Sn_go_46 ?_
        refine z_isub (r := (en - (p1 (x - 1)))) X d_Sn_go_47 rfl ?_
        refine z_afterV (w2 := fun u => (w_Sn h cA (uz p1 (x - 1 + d) (en - (p1 (x - 1)))) (uz s1 (x - 1 + d) (s1 (x - 1))) (uz l1 (x - 1 + d) (l1 (x - 1))) (uz k1 (x - 1 + d) (k1 (x - 1))) ((x - 1 : Nat):Int) ((x - 1 + d : Nat):Int))) (wr := []) hw (z_runV (rest := []) X hw k_Sn v_Sn_35 [.int (iI ((x - 1 : Nat):Int)), .int (iI ((x - 1 + d : Nat):Int)), .int (iI (en - (p1 (x - 1))))] (c_Sn_move l D cA h _ p1 s1 l1 k1 ((x - 1 : Nat):Int) ((x - 1 + d : Nat):Int) (en - (p1 (x - 1))) (x - 1) (x - 1 + d) (by omega) (by omega) hS2 hL2 hK2) 0 rfl [0, 1, 2, 3, 4] rfl rfl rfl rfl hl.1 rfl (Nat.le_of_ble_eq_true rfl) ⟨rfl, rfl, Nat.le_of_ble_eq_true rfl, Nat.le_of_ble_eq_true rfl⟩ ⟨Nat.le_of_ble_eq_true rfl, Nat.le_of_ble_eq_true rfl⟩ d_Sn_go_48) [0, 1, 2, 3, 4] [] [0, 1, 2, 3, 4] rfl rfl rfl (by decide) rfl (fun _ => rfl) (fun _ => rfl) (fun u_48 H locs hu_48 hw => ?_)
        refine z_goto (tgt := 0) X d_Sn_go_51 (by decide) ?_
        exact ih (x - 1) (uz p1 (x - 1 + d) (en - p1 (x - 1))) (uz s1 (x - 1 + d) (s1 (x - 1))) (uz l1 (x - 1 + d) (l1 (x - 1))) (uz k1 (x - 1 + d) (k1 (x - 1))) (by omega) (by omega) ⟨fun j => (sP_R p1 (x - 1) d j en).trans (by rw [hx1]; exact hi.1 j), fun j => (sX_R s1 (x - 1) d j).trans (by rw [hx1]; exact hi.2.1 j), fun j => (sX_R l1 (x - 1) d j).trans (by rw [hx1]; exact hi.2.2.1 j), fun j => (sX_R k1 (x - 1) d j).trans (by rw [hx1]; exact hi.2.2.2 j)⟩ H locs ls hw (lv_sub hl [0, 1, 2] rfl)
  exact lp1 (cl + 1) cl P S L K (by omega) (by omega) ⟨fun j => rfl, fun j => rfl, fun j => rfl, fun j => rfl⟩ _ _ ls hw (lv_sub hl [0, 1, 2] rfl)
set_option maxHeartbeats 4000000 in
set_option maxRecDepth 100000 in
/-- one more on the left -/
theorem c_Sn_put (l : Launch) (D : va_G) (cA : Nat → ClassId) (h : Nat → Nat) (hs : Nat) (P S L K : Nat → Int) (cl : Nat) (cr pl s0 l0 k0 : Int) (h1 : cl < 401) (hS : -32768 ≤ s0 ∧ s0 < 32768) (hL : -32768 ≤ l0 ∧ l0 < 32768) (hK : -128 ≤ k0 ∧ k0 < 128) : Met l y_Sn_put (cW y_Sn_put b_Sn_put 5 none) (rM 0 0) (zP [.ref (h 6), .int (iI pl), .int (iI s0), .int (iI l0), .int (iI k0)] D cA (w_Sn h cA P S L K (cl:Int) cr) hs) (zQv (fun _ : Unit => True) (fun _ => w_Sn h cA (uz P cl pl) (uz S cl s0) (uz L cl l0) (uz K cl k0) ((cl + 1 : Nat):Int) cr) D (w_Sn h cA P S L K (cl:Int) cr) hs) 0 0 (va_A (w_Sn h cA P S L K (cl:Int) cr) hs) := by
  refine z_ofW (lv := [(0, .ref (h 6)), (1, .int (iI pl)), (2, .int (iI s0)), (3, .int (iI l0)), (4, .int (iI k0))]) (by decide) (Nat.le_of_ble_eq_true rfl) rfl ?_
  intro p e s m below meth c ls hr hlk hnm X hhs hw hl
  have X : Cx p s m ([.ref (h 6), .int (iI pl), .int (iI s0), .int (iI l0), .int (iI k0)] : List Value).toArray c b_Sn_put 5 R_Sn D cA := X
  refine lv_aload_n X.1 X.2.1 d_Sn_put_0 rfl (lv_at hl 0 rfl) ?_
  refine z_get X hw k_Sn 0 rfl 0 (by decide) rfl m_fl_Sn_9 rfl d_Sn_put_1 ?_
  refine lv_aload_n X.1 X.2.1 d_Sn_put_4 rfl (lv_at hl 0 rfl) ?_
  refine z_get X hw k_Sn 0 rfl 4 (by decide) rfl m_fl_Sn_28 rfl d_Sn_put_5 ?_
  refine lv_iload_n X.1 X.2.1 d_Sn_put_8 rfl (lv_at hl 1 rfl) ?_
  refine z_iast (ws' := (w_Sn h cA (uz P cl pl) S L K (cl:Int) cr)) X hw 1 rfl cl (by omega) (by omega) (by decide) d_Sn_put_9 rfl (fun H locs hw => ?_)
  refine lv_aload_n X.1 X.2.1 d_Sn_put_10 rfl (lv_at hl 0 rfl) ?_
  refine z_get X hw k_Sn 0 rfl 1 (by decide) rfl m_fl_Sn_13 rfl d_Sn_put_11 ?_
  refine lv_aload_n X.1 X.2.1 d_Sn_put_14 rfl (lv_at hl 0 rfl) ?_
  refine z_get X hw k_Sn 0 rfl 4 (by decide) rfl m_fl_Sn_28 rfl d_Sn_put_15 ?_
  refine lv_iload_n X.1 X.2.1 d_Sn_put_18 rfl (lv_at hl 2 rfl) ?_
  refine z_i2s X d_Sn_put_19 (by omega) ?_
  refine z_sast (ws' := (w_Sn h cA (uz P cl pl) (uz S cl s0) L K (cl:Int) cr)) X hw 2 rfl cl (by omega) (by omega) (by decide) (by omega) d_Sn_put_20 rfl (fun H locs hw => ?_)
  refine lv_aload_n X.1 X.2.1 d_Sn_put_21 rfl (lv_at hl 0 rfl) ?_
  refine z_get X hw k_Sn 0 rfl 2 (by decide) rfl m_fl_Sn_17 rfl d_Sn_put_22 ?_
  refine lv_aload_n X.1 X.2.1 d_Sn_put_25 rfl (lv_at hl 0 rfl) ?_
  refine z_get X hw k_Sn 0 rfl 4 (by decide) rfl m_fl_Sn_28 rfl d_Sn_put_26 ?_
  refine lv_iload_n X.1 X.2.1 d_Sn_put_29 rfl (lv_at hl 3 rfl) ?_
  refine z_i2s X d_Sn_put_30 (by omega) ?_
  refine z_sast (ws' := (w_Sn h cA (uz P cl pl) (uz S cl s0) (uz L cl l0) K (cl:Int) cr)) X hw 3 rfl cl (by omega) (by omega) (by decide) (by omega) d_Sn_put_31 rfl (fun H locs hw => ?_)
  refine lv_aload_n X.1 X.2.1 d_Sn_put_32 rfl (lv_at hl 0 rfl) ?_
  refine z_get X hw k_Sn 0 rfl 3 (by decide) rfl m_fl_Sn_20 rfl d_Sn_put_33 ?_
  refine lv_aload_n X.1 X.2.1 d_Sn_put_36 rfl (lv_at hl 0 rfl) ?_
  refine z_get X hw k_Sn 0 rfl 4 (by decide) rfl m_fl_Sn_28 rfl d_Sn_put_37 ?_
  refine lv_iload X.1 X.2.1 d_Sn_put_40 (lv_at hl 4 rfl) ?_
  refine z_i2b X d_Sn_put_42 (by omega) ?_
  refine z_bast (ws' := (w_Sn h cA (uz P cl pl) (uz S cl s0) (uz L cl l0) (uz K cl k0) (cl:Int) cr)) X hw 4 rfl cl (by omega) (by omega) (by decide) (by omega) d_Sn_put_43 rfl (fun H locs hw => ?_)
  refine lv_aload_n X.1 X.2.1 d_Sn_put_44 rfl (lv_at hl 0 rfl) ?_
  refine lv_dup X.1 X.2.1 d_Sn_put_45 rfl ?_
  refine z_get X hw k_Sn 0 rfl 4 (by decide) rfl m_fl_Sn_28 rfl d_Sn_put_46 ?_
  refine z_iconst X d_Sn_put_49 ?_
  refine z_iadd (r := ((cl + 1 : Nat):Int)) X d_Sn_put_50 (by omega) ?_
  refine z_put (ws' := (w_Sn h cA (uz P cl pl) (uz S cl s0) (uz L cl l0) (uz K cl k0) ((cl + 1 : Nat):Int) cr)) X hw k_Sn 0 rfl 4 (by decide) rfl rfl (Nat.le_of_ble_eq_true rfl) m_fl_Sn_28 rfl d_Sn_put_51 rfl (fun H locs hw => ?_)
  exact z_vret X hr hlk () trivial hw d_Sn_put_54
set_option maxHeartbeats 4000000 in
set_option maxRecDepth 100000 in
/-- none -/
theorem c_Sn_clear (l : Launch) (D : va_G) (cA : Nat → ClassId) (h : Nat → Nat) (hs : Nat) (cl cr : Int) : Met l y_Sn_clear (cW y_Sn_clear b_Sn_clear 1 none) (rM 0 0) (zP [.ref (h 6)] D cA (w_SnO h cA cl cr) hs) (zQv (fun _ : Unit => True) (fun _ => w_SnO h cA 0 401) D (w_SnO h cA cl cr) hs) 0 0 (va_A (w_SnO h cA cl cr) hs) := by
  refine z_ofW (lv := [(0, .ref (h 6))]) (by decide) (Nat.le_of_ble_eq_true rfl) rfl ?_
  intro p e s m below meth c ls hr hlk hnm X hhs hw hl
  have X : Cx p s m ([.ref (h 6)] : List Value).toArray c b_Sn_clear 1 R_Sn D cA := X
  refine lv_aload_n X.1 X.2.1 d_Sn_clear_0 rfl (lv_at hl 0 rfl) ?_
  refine z_iconst X d_Sn_clear_1 ?_
  refine z_put (ws' := (w_SnO h cA 0 cr)) X hw k_Sn 0 rfl 4 (by decide) rfl rfl (Nat.le_of_ble_eq_true rfl) m_fl_Sn_28 rfl d_Sn_clear_2 rfl (fun H locs hw => ?_)
  refine lv_aload_n X.1 X.2.1 d_Sn_clear_5 rfl (lv_at hl 0 rfl) ?_
  refine z_sipush X d_Sn_clear_6 (by decide) ?_
  refine z_put (ws' := (w_SnO h cA 0 401)) X hw k_Sn 0 rfl 5 (by decide) rfl rfl (Nat.le_of_ble_eq_true rfl) m_fl_Sn_24 rfl d_Sn_clear_9 rfl (fun H locs hw => ?_)
  exact z_vret X hr hlk () trivial hw d_Sn_clear_12
set_option maxHeartbeats 4000000 in
set_option maxRecDepth 100000 in
/-- none as yet -/
theorem c_Sn_init (l : Launch) (D : va_G) (cA : Nat → ClassId)  (hs : Nat) (q : Nat) : Met l y_Sn_init (cW y_Sn_init b_Sn_init 1 none) { frames := 1, cells := 4, slots := 1604, locals := 12 } (zP [.ref q] D cA [(q, .inr (2, [.null, .null, .null, .null, .int (iI 0), .int (iI 0)]))] hs) (zQv (fun _ : Nat × Nat × Nat × Nat => True) (fun u => [(q, .inr (2, [.ref u.1, .ref u.2.1, .ref u.2.2.1, .ref u.2.2.2, .int (iI 0), .int (iI 401)])), (u.1, .inl (cA 1, 401, .inl (zf (fun _ => 0)))), (u.2.1, .inl (cA 2, 401, .inl (zf (fun _ => 0)))), (u.2.2.1, .inl (cA 2, 401, .inl (zf (fun _ => 0)))), (u.2.2.2, .inl (cA 0, 401, .inl (zf (fun _ => 0))))]) D [(q, .inr (2, [.null, .null, .null, .null, .int (iI 0), .int (iI 0)]))] hs) 4 1604 (va_A [(q, .inr (2, [.null, .null, .null, .null, .int (iI 0), .int (iI 0)]))] hs) := by
  refine z_ofW (lv := [(0, .ref q)]) (by decide) (Nat.le_of_ble_eq_true rfl) rfl ?_
  intro p e s m below meth c ls hr hlk hnm X hhs hw hl
  have X : Cx p s m ([.ref q] : List Value).toArray c b_Sn_init 1 R_Sn D cA := X
  refine lv_aload_n X.1 X.2.1 d_Sn_init_0 rfl (lv_at hl 0 rfl) ?_
  refine z_objInit X m_ml_Sn_1 hl.1 d_Sn_init_1 (Nat.le_of_ble_eq_true rfl) (Nat.le_of_ble_eq_true rfl) ?_
  refine lv_aload_n X.1 X.2.1 d_Sn_init_4 rfl (lv_at hl 0 rfl) ?_
  refine z_sipush X d_Sn_init_5 (by decide) ?_
  refine z_newa X hw (ty := .int) rfl m_ac_int 1 rfl (fun C h => by cases h) 401 (by decide) (fun _ => rfl) rfl (by decide) (Nat.le_of_ble_eq_true rfl) (Nat.le_of_ble_eq_true rfl) d_Sn_init_8 (fun q_8 H hw => ?_)
  refine W.widen (k := 1) (n := 401) (by decide) (by decide) ?_
  have hw : Wd D (va_A [(q, .inr (2, [.null, .null, .null, .null, .int (iI 0), .int (iI 0)]))] hs) s.heap [(q, .inr (2, [.null, .null, .null, .null, .int (iI 0), .int (iI 0)])), (q_8, .inl (cA 1, 401, .inl (zf (fun _ => 0))))] H _ := hw
  refine z_putF (ws' := [(q, .inr (2, [.ref q_8, .null, .null, .null, .int (iI 0), .int (iI 0)])), (q_8, .inl (cA 1, 401, .inl (zf (fun _ => 0))))]) X hw hnm k_Sn 0 rfl 0 (by decide) rfl rfl rfl rfl (Nat.le_of_ble_eq_true rfl) m_fl_Sn_9 rfl d_Sn_init_10 rfl (fun H locs hw => ?_)
  refine lv_aload_n X.1 X.2.1 d_Sn_init_13 rfl (lv_at hl 0 rfl) ?_
  refine z_sipush X d_Sn_init_14 (by decide) ?_
  refine z_newa X hw (ty := .short) rfl m_ac_short 2 rfl (fun C h => by cases h) 401 (by decide) (fun _ => rfl) rfl (by decide) (Nat.le_of_ble_eq_true rfl) (Nat.le_of_ble_eq_true rfl) d_Sn_init_17 (fun q_17 H hw => ?_)
  refine W.widen (k := 2) (n := 802) (by decide) (by decide) ?_
  have hw : Wd D (va_A [(q, .inr (2, [.null, .null, .null, .null, .int (iI 0), .int (iI 0)]))] hs) s.heap [(q, .inr (2, [.ref q_8, .null, .null, .null, .int (iI 0), .int (iI 0)])), (q_8, .inl (cA 1, 401, .inl (zf (fun _ => 0)))), (q_17, .inl (cA 2, 401, .inl (zf (fun _ => 0))))] H _ := hw
  refine z_putF (ws' := [(q, .inr (2, [.ref q_8, .ref q_17, .null, .null, .int (iI 0), .int (iI 0)])), (q_8, .inl (cA 1, 401, .inl (zf (fun _ => 0)))), (q_17, .inl (cA 2, 401, .inl (zf (fun _ => 0))))]) X hw hnm k_Sn 0 rfl 1 (by decide) rfl rfl rfl rfl (Nat.le_of_ble_eq_true rfl) m_fl_Sn_13 rfl d_Sn_init_19 rfl (fun H locs hw => ?_)
  refine lv_aload_n X.1 X.2.1 d_Sn_init_22 rfl (lv_at hl 0 rfl) ?_
  refine z_sipush X d_Sn_init_23 (by decide) ?_
  refine z_newa X hw (ty := .short) rfl m_ac_short 2 rfl (fun C h => by cases h) 401 (by decide) (fun _ => rfl) rfl (by decide) (Nat.le_of_ble_eq_true rfl) (Nat.le_of_ble_eq_true rfl) d_Sn_init_26 (fun q_26 H hw => ?_)
  refine W.widen (k := 3) (n := 1203) (by decide) (by decide) ?_
  have hw : Wd D (va_A [(q, .inr (2, [.null, .null, .null, .null, .int (iI 0), .int (iI 0)]))] hs) s.heap [(q, .inr (2, [.ref q_8, .ref q_17, .null, .null, .int (iI 0), .int (iI 0)])), (q_8, .inl (cA 1, 401, .inl (zf (fun _ => 0)))), (q_17, .inl (cA 2, 401, .inl (zf (fun _ => 0)))), (q_26, .inl (cA 2, 401, .inl (zf (fun _ => 0))))] H _ := hw
  refine z_putF (ws' := [(q, .inr (2, [.ref q_8, .ref q_17, .ref q_26, .null, .int (iI 0), .int (iI 0)])), (q_8, .inl (cA 1, 401, .inl (zf (fun _ => 0)))), (q_17, .inl (cA 2, 401, .inl (zf (fun _ => 0)))), (q_26, .inl (cA 2, 401, .inl (zf (fun _ => 0))))]) X hw hnm k_Sn 0 rfl 2 (by decide) rfl rfl rfl rfl (Nat.le_of_ble_eq_true rfl) m_fl_Sn_17 rfl d_Sn_init_28 rfl (fun H locs hw => ?_)
  refine lv_aload_n X.1 X.2.1 d_Sn_init_31 rfl (lv_at hl 0 rfl) ?_
  refine z_sipush X d_Sn_init_32 (by decide) ?_
  refine z_newa X hw (ty := .byte) rfl m_ac_byte 0 rfl (fun C h => by cases h) 401 (by decide) (fun _ => rfl) rfl (by decide) (Nat.le_of_ble_eq_true rfl) (Nat.le_of_ble_eq_true rfl) d_Sn_init_35 (fun q_35 H hw => ?_)
  refine W.widen (k := 4) (n := 1604) (by decide) (by decide) ?_
  have hw : Wd D (va_A [(q, .inr (2, [.null, .null, .null, .null, .int (iI 0), .int (iI 0)]))] hs) s.heap [(q, .inr (2, [.ref q_8, .ref q_17, .ref q_26, .null, .int (iI 0), .int (iI 0)])), (q_8, .inl (cA 1, 401, .inl (zf (fun _ => 0)))), (q_17, .inl (cA 2, 401, .inl (zf (fun _ => 0)))), (q_26, .inl (cA 2, 401, .inl (zf (fun _ => 0)))), (q_35, .inl (cA 0, 401, .inl (zf (fun _ => 0))))] H _ := hw
  refine z_putF (ws' := [(q, .inr (2, [.ref q_8, .ref q_17, .ref q_26, .ref q_35, .int (iI 0), .int (iI 0)])), (q_8, .inl (cA 1, 401, .inl (zf (fun _ => 0)))), (q_17, .inl (cA 2, 401, .inl (zf (fun _ => 0)))), (q_26, .inl (cA 2, 401, .inl (zf (fun _ => 0)))), (q_35, .inl (cA 0, 401, .inl (zf (fun _ => 0))))]) X hw hnm k_Sn 0 rfl 3 (by decide) rfl rfl rfl rfl (Nat.le_of_ble_eq_true rfl) m_fl_Sn_20 rfl d_Sn_init_37 rfl (fun H locs hw => ?_)
  refine lv_aload_n X.1 X.2.1 d_Sn_init_40 rfl (lv_at hl 0 rfl) ?_
  refine z_sipush X d_Sn_init_41 (by decide) ?_
  refine z_put (ws' := [(q, .inr (2, [.ref q_8, .ref q_17, .ref q_26, .ref q_35, .int (iI 0), .int (iI 401)])), (q_8, .inl (cA 1, 401, .inl (zf (fun _ => 0)))), (q_17, .inl (cA 2, 401, .inl (zf (fun _ => 0)))), (q_26, .inl (cA 2, 401, .inl (zf (fun _ => 0)))), (q_35, .inl (cA 0, 401, .inl (zf (fun _ => 0))))]) X hw k_Sn 0 rfl 5 (by decide) rfl rfl (Nat.le_of_ble_eq_true rfl) m_fl_Sn_24 rfl d_Sn_init_44 rfl (fun H locs hw => ?_)
  exact z_vret X hr hlk (q_8, q_17, q_26, q_35) trivial hw d_Sn_init_47
end
section
/-! ===== the pure law: a scan, the chain of what is scanned, an edit ===== -/
def sl (a kt t : Nat → Int) (n p : Nat) : Nat → Int → Nat → Nat → Int → Nat × Nat × Int
  | 0, _, lk, sz, kd => (lk, sz, kd)
  | f + 1, st, lk, sz, kd => if st = -1 then (lk, sz, kd) else
      if nx a st.toNat (sy t n ((p + lk : Nat) : Int)) ≠ -1 ∧ kt (nx a st.toNat (sy t n ((p + lk : Nat) : Int))).toNat ≠ -1
      then sl a kt t n p f (nx a st.toNat (sy t n ((p + lk : Nat) : Int))) (lk + 1) (lk + 1) (kt (nx a st.toNat (sy t n ((p + lk : Nat) : Int))).toNat)
      else sl a kt t n p f (nx a st.toNat (sy t n ((p + lk : Nat) : Int))) (lk + 1) sz kd
/-- a scan at p: how many symbols it looked at, the token's size (0: none), its kind (-1: none) -/
def sc (a kt t : Nat → Int) (n p : Nat) : Nat × Nat × Int := sl a kt t n p 402 0 0 0 (-1)
def Rg (a kt t : Nat → Int) (n : Nat) : Prop := (∀ j, j < 200 → -1 ≤ a j ∧ a j < 20) ∧ (∀ j, j < 20 → -1 ≤ kt j ∧ kt j < 100) ∧ (∀ i, i < n → 0 ≤ t i ∧ t i < 10) ∧ n ≤ 400
theorem sy_rg {a kt t : Nat → Int} {n : Nat} (h : Rg a kt t n) (z : Int) : sy t n z = -1 ∧ ¬ (0 ≤ z ∧ z < n) ∨ (0 ≤ sy t n z ∧ sy t n z < 10) ∧ 0 ≤ z ∧ z < n := by
  unfold sy
  split
  · rename_i q
    exact Or.inr ⟨h.2.2.1 _ (by omega), q⟩
  · rename_i q
    exact Or.inl ⟨rfl, q⟩
theorem nx_rg {a kt t : Nat → Int} {n st : Nat} (h : Rg a kt t n) (hs : st < 20) (z : Int) : -1 ≤ nx a st (sy t n z) ∧ nx a st (sy t n z) < 20 ∧ (nx a st (sy t n z) ≠ -1 → 0 ≤ z ∧ z < n) := by
  rcases sy_rg h z with ⟨q1, q2⟩ | ⟨q1, q2⟩
  · unfold nx
    rw [if_pos q1]
    omega
  · unfold nx
    rw [if_neg (by omega)]
    have := h.1 (10 * (st : Int) + sy t n z).toNat (by omega)
    exact ⟨this.1, this.2, fun _ => q2⟩
theorem sl_mono {a kt t : Nat → Int} {n p : Nat} : ∀ (f : Nat) (st : Int) (lk sz : Nat) (kd : Int), lk ≤ (sl a kt t n p f st lk sz kd).1 := by
  intro f
  induction f with
  | zero => intro st lk sz kd; exact Nat.le_refl _
  | succ f ih =>
    intro st lk sz kd
    unfold sl
    split
    · exact Nat.le_refl _
    · split
      · exact Nat.le_trans (Nat.le_succ lk) (ih _ _ _ _)
      · exact Nat.le_trans (Nat.le_succ lk) (ih _ _ _ _)
theorem sl_ok {a kt t : Nat → Int} {n p : Nat} (h : Rg a kt t n) : ∀ (f : Nat) (st : Int) (lk sz : Nat) (kd : Int), st = -1 ∨ (0 ≤ st ∧ st < 20 ∧ p + lk ≤ n) → st = -1 ∨ 402 ≤ lk + f → sz ≤ lk → (st = -1 → sz < lk) → p + sz ≤ n → (kd = -1 ↔ sz = 0) → -1 ≤ kd ∧ kd < 100 → p + lk ≤ n + 1 →
    (sl a kt t n p f st lk sz kd).2.1 < (sl a kt t n p f st lk sz kd).1 ∧ p + (sl a kt t n p f st lk sz kd).2.1 ≤ n ∧ p + (sl a kt t n p f st lk sz kd).1 ≤ n + 1 ∧ ((sl a kt t n p f st lk sz kd).2.2 = -1 ↔ (sl a kt t n p f st lk sz kd).2.1 = 0) ∧ -1 ≤ (sl a kt t n p f st lk sz kd).2.2 ∧ (sl a kt t n p f st lk sz kd).2.2 < 100 := by
  intro f
  induction f with
  | zero =>
    intro st lk sz kd h1 h2 h3 h4 h5 h6 h7 h8
    have hn := h.2.2.2
    have hst : st = -1 := by omega
    exact ⟨h4 hst, h5, h8, h6, h7⟩
  | succ f ih =>
    intro st lk sz kd h1 h2 h3 h4 h5 h6 h7 h8
    unfold sl
    split
    · rename_i q
      exact ⟨h4 q, h5, h8, h6, h7⟩
    · rename_i q
      have hs : 0 ≤ st ∧ st < 20 ∧ p + lk ≤ n := by omega
      have hx := nx_rg h (st := st.toNat) (by omega) ((p + lk : Nat) : Int)
      generalize nx a st.toNat (sy t n ((p + lk : Nat) : Int)) = s2 at hx ⊢
      split
      · rename_i q2
        have hk := h.2.1 s2.toNat (by omega)
        have hz := hx.2.2 q2.1
        exact ih s2 (lk + 1) (lk + 1) (kt s2.toNat) (by omega) (by omega) (by omega) (by omega) (by omega) (by omega) (by omega) (by omega)
      · exact ih s2 (lk + 1) sz kd (by
          by_cases e : s2 = -1
          · exact Or.inl e
          · have := hx.2.2 e
            omega) (by omega) (by omega) (by omega) (by omega) h6 h7 (by omega)
/-- what every scan keeps -/
def GF (F : Nat → Nat × Nat × Int) (n : Nat) : Prop := ∀ p, p < n → (F p).2.1 < (F p).1 ∧ p + (F p).2.1 ≤ n ∧ p + (F p).1 ≤ n + 1 ∧ ((F p).2.2 = -1 ↔ (F p).2.1 = 0) ∧ -1 ≤ (F p).2.2 ∧ (F p).2.2 < 100
theorem sc_GF {a kt t : Nat → Int} {n : Nat} (h : Rg a kt t n) : GF (sc a kt t n) n := fun p hp => sl_ok h 402 0 0 0 (-1) (by omega) (by omega) (by omega) (by omega) (by omega) (by omega) (by omega) (by omega)
theorem sl_loc {a kt t t' : Nat → Int} {n n' p p' : Nat} : ∀ (f : Nat) (st : Int) (lk sz : Nat) (kd : Int), (∀ i, lk ≤ i → i < (sl a kt t n p f st lk sz kd).1 → sy t n ((p + i : Nat) : Int) = sy t' n' ((p' + i : Nat) : Int)) → sl a kt t' n' p' f st lk sz kd = sl a kt t n p f st lk sz kd := by
  intro f
  induction f with
  | zero => intro st lk sz kd _; rfl
  | succ f ih =>
    intro st lk sz kd h
    unfold sl at h ⊢
    by_cases q : st = -1
    · rw [if_pos q, if_pos q]
    · rw [if_neg q] at h ⊢
      rw [if_neg q]
      have e : sy t n ((p + lk : Nat) : Int) = sy t' n' ((p' + lk : Nat) : Int) := by
        refine h lk (Nat.le_refl _) ?_
        split
        · exact Nat.lt_of_lt_of_le (Nat.lt_succ_self lk) (sl_mono _ _ _ _ _)
        · exact Nat.lt_of_lt_of_le (Nat.lt_succ_self lk) (sl_mono _ _ _ _ _)
      rw [← e]
      split
      · rename_i q2
        rw [if_pos q2] at h
        exact ih _ _ _ _ (fun i hi h2 => h i (by omega) h2)
      · rename_i q2
        rw [if_neg q2] at h
        exact ih _ _ _ _ (fun i hi h2 => h i (by omega) h2)
theorem sc_loc {a kt t t' : Nat → Int} {n n' p p' : Nat} (h : ∀ i, i < (sc a kt t n p).1 → sy t n ((p + i : Nat) : Int) = sy t' n' ((p' + i : Nat) : Int)) : sc a kt t' n' p' = sc a kt t n p := sl_loc 402 0 0 0 (-1) (fun i _ h2 => h i h2)
/-- the text behind an edit: o symbols out at p, m put in -/
def et (t : Nat → Int) (p o m : Nat) (w : Nat → Int) : Nat → Int := fun i => if i < p then t i else if i < p + m then w (i - p) else t (i - m + o)
/-- what an edit does to scans -/
def ER (F F' : Nat → Nat × Nat × Int) (n n' p o m : Nat) : Prop := p + o ≤ n ∧ n' + o = n + m ∧ (∀ q, q + (F q).1 ≤ p → F' q = F q) ∧ ∀ q, p + o ≤ q → F' (q + m - o) = F q
theorem et_ER {a kt t : Nat → Int} {n n' p o m : Nat} {w : Nat → Int} (h1 : p + o ≤ n) (h2 : n' + o = n + m) : ER (sc a kt t n) (sc a kt (et t p o m w) n') n n' p o m := by
  refine ⟨h1, h2, fun q hq => sc_loc (fun i hi => ?_), fun q hq => sc_loc (fun i hi => ?_)⟩
  · unfold sy
    rw [if_pos (by omega), if_pos (by omega)]
    unfold et
    rw [if_pos (by omega)]
  · unfold sy
    by_cases e : q + i < n
    · rw [if_pos (by omega), if_pos (by omega)]
      unfold et
      rw [if_neg (by omega), if_neg (by omega)]
      exact congrArg t (by omega)
    · rw [if_neg (by omega), if_neg (by omega)]
/-- where the i-th one begins -/
def bg (F : Nat → Nat × Nat × Int) : Nat → Nat
  | 0 => 0
  | i + 1 => bg F i + (F (bg F i)).2.1
/-- there are c of them: tokens, and perhaps a failure, the last -/
def IsC (F : Nat → Nat × Nat × Int) (n c : Nat) : Prop := (∀ i, i < c → bg F i < n) ∧ (∀ i, i + 1 < c → 0 < (F (bg F i)).2.1) ∧ (bg F c = n ∨ 0 < c ∧ (F (bg F (c - 1))).2.1 = 0)
theorem IsC_uniq {F : Nat → Nat × Nat × Int} {n c d : Nat} (h : IsC F n c) (k : IsC F n d) : c = d := by
  have key : ∀ {c d : Nat}, IsC F n c → IsC F n d → ¬ c < d := by
    intro c d h k q
    rcases h.2.2 with e | ⟨e1, e2⟩
    · have := k.1 c q
      omega
    · have := k.2.1 (c - 1) (by omega)
      omega
  have h1 := key h k
  have h2 := key k h
  omega
theorem IsC_0 {F : Nat → Nat × Nat × Int} : IsC F 0 0 := ⟨fun i h => absurd h (Nat.not_lt_zero i), fun i h => absurd h (Nat.not_lt_zero _), Or.inl rfl⟩
theorem IsC_z {F : Nat → Nat × Nat × Int} {c n : Nat} (h : IsC F n c) : c = 0 ↔ n = 0 := by
  constructor
  · intro e
    subst e
    rcases h.2.2 with q | q
    · exact q.symm
    · omega
  · intro e
    subst e
    rcases Nat.eq_zero_or_pos c with q | q
    · exact q
    · exact absurd (h.1 0 q) (Nat.not_lt_zero _)
theorem bg_le {F : Nat → Nat × Nat × Int} {n c : Nat} (g : GF F n) (h : IsC F n c) : ∀ i, i ≤ c → bg F i ≤ n := by
  intro i hi
  cases i with
  | zero => exact Nat.zero_le _
  | succ i => exact (g (bg F i) (h.1 i (by omega))).2.1
theorem bg_mono {F : Nat → Nat × Nat × Int} : ∀ (u i : Nat), bg F i ≤ bg F (i + u) := by
  intro u
  induction u with
  | zero => intro i; exact Nat.le_refl _
  | succ u ih => intro i; exact Nat.le_trans (ih i) (Nat.le_add_right _ _)
theorem bg_strict {F : Nat → Nat × Nat × Int} {c : Nat} (h : ∀ i, i + 1 < c → 0 < (F (bg F i)).2.1) : ∀ (u i : Nat), i + u < c → bg F i + u ≤ bg F (i + u) := by
  intro u
  induction u with
  | zero => intro i _; exact Nat.le_refl _
  | succ u ih =>
    intro i hi
    have h1 := ih i (by omega)
    have h2 := h (i + u) (by omega)
    show bg F i + (u + 1) ≤ bg F (i + u) + (F (bg F (i + u))).2.1
    omega
/-- the last of c is a failure -/
def Fl (F : Nat → Nat × Nat × Int) (c : Nat) : Prop := 0 < c ∧ (F (bg F (c - 1))).2.1 = 0
/-- the first that looked at the place p, or behind it; c if none -/
def IsF (F : Nat → Nat × Nat × Int) (p c i : Nat) : Prop := i ≤ c ∧ (∀ j, j < i → bg F j + (F (bg F j)).1 ≤ p) ∧ (i < c → p < bg F i + (F (bg F i)).1)
theorem IsF_uniq {F : Nat → Nat × Nat × Int} {p c i j : Nat} (h : IsF F p c i) (k : IsF F p c j) : i = j := by
  have key : ∀ {i j : Nat}, IsF F p c i → IsF F p c j → ¬ i < j := by
    intro i j h k q
    have h1 := k.2.1 i q
    have h2 := h.2.2 (Nat.lt_of_lt_of_le q k.1)
    omega
  have h1 := key h k
  have h2 := key k h
  omega
theorem bg_same {F F' : Nat → Nat × Nat × Int} {n n' p o m i : Nat} (r : ER F F' n n' p o m) (h : ∀ j, j < i → bg F j + (F (bg F j)).1 ≤ p) : ∀ j, j ≤ i → bg F' j = bg F j := by
  intro j
  induction j with
  | zero => intro _; rfl
  | succ j ih =>
    intro hj
    have e := ih (by omega)
    have e2 := r.2.2.1 (bg F j) (h j (by omega))
    show bg F' j + (F' (bg F' j)).2.1 = bg F j + (F (bg F j)).2.1
    rw [e, e2]
theorem bg_shift {F F' : Nat → Nat × Nat × Int} {n n' p o m i j : Nat} (r : ER F F' n n' p o m) (h : p + o ≤ bg F j) (e : bg F' i + o = bg F j + m) : ∀ u, bg F' (i + u) + o = bg F (j + u) + m ∧ F' (bg F' (i + u)) = F (bg F (j + u)) := by
  have one : ∀ u, bg F' (i + u) + o = bg F (j + u) + m → F' (bg F' (i + u)) = F (bg F (j + u)) := by
    intro u e1
    have h1 : p + o ≤ bg F (j + u) := Nat.le_trans h (bg_mono u j)
    have h2 := r.2.2.2 (bg F (j + u)) h1
    rw [show bg F' (i + u) = bg F (j + u) + m - o by omega]
    exact h2
  intro u
  induction u with
  | zero => exact ⟨e, one 0 e⟩
  | succ u ih =>
    have e2 : bg F' (i + (u + 1)) + o = bg F (j + (u + 1)) + m := by
      show bg F' (i + u) + (F' (bg F' (i + u))).2.1 + o = bg F (j + u) + (F (bg F (j + u))).2.1 + m
      rw [ih.2]
      have := ih.1
      omega
    exact ⟨e2, one (u + 1) e2⟩
/-- the chain goes on as the old one did: how many there are -/
theorem IsC_shift {F F' : Nat → Nat × Nat × Int} {n n' p o m i j c : Nat} (r : ER F F' n n' p o m) (k : IsC F n c) (hj : j < c) (h : p + o ≤ bg F j) (e : bg F' i + o = bg F j + m) (h1 : ∀ u, u < i → bg F' u < n') (h2 : ∀ u, u < i → 0 < (F' (bg F' u)).2.1) : IsC F' n' (i + (c - j)) := by
  have s := bg_shift r h e
  have r2 := r.2.1
  refine ⟨fun u hu => ?_, fun u hu => ?_, ?_⟩
  · by_cases q : u < i
    · exact h1 u q
    · have s1 := (s (u - i)).1
      have k1 := k.1 (j + (u - i)) (by omega)
      rw [show i + (u - i) = u by omega] at s1
      omega
  · by_cases q : u < i
    · exact h2 u q
    · have s1 := (s (u - i)).2
      have k1 := k.2.1 (j + (u - i)) (by omega)
      rw [show i + (u - i) = u by omega] at s1
      rw [s1]
      exact k1
  · rcases k.2.2 with q | ⟨q1, q2⟩
    · have s1 := (s (c - j)).1
      rw [show j + (c - j) = c by omega] at s1
      left
      omega
    · right
      have s1 := (s (c - j - 1)).2
      rw [show j + (c - j - 1) = c - 1 by omega] at s1
      refine ⟨by omega, ?_⟩
      rw [show i + (c - j) - 1 = i + (c - j - 1) by omega, s1]
      exact q2
/-- behind a failure that nobody looked behind all is as it was -/
theorem IsC_same {F F' : Nat → Nat × Nat × Int} {n n' p o m c : Nat} (g : GF F n) (r : ER F F' n n' p o m) (k : IsC F n c) (h0 : 0 < c) (h : ∀ j, j < c → bg F j + (F (bg F j)).1 ≤ p) : IsC F' n' c ∧ ∀ j, j < c → F' (bg F' j) = F (bg F j) := by
  have s := bg_same r h
  have r1 := r.1
  have r2 := r.2.1
  have hF : ∀ j, j < c → F' (bg F' j) = F (bg F j) := fun j hj => by
    rw [s j (by omega)]
    exact r.2.2.1 _ (h j hj)
  have hp : ∀ j, j < c → bg F j < p := fun j hj => by
    have h1 := h j hj
    have h2 := g (bg F j) (k.1 j hj)
    omega
  refine ⟨⟨fun i hi => ?_, fun i hi => ?_, ?_⟩, hF⟩
  · rw [s i (by omega)]
    have := hp i hi
    omega
  · rw [hF i (by omega)]
    exact k.2.1 i hi
  · right
    refine ⟨h0, ?_⟩
    rw [hF (c - 1) (by omega)]
    rcases k.2.2 with q | q
    · have h1 := h (c - 1) (by omega)
      have h2 := g (bg F (c - 1)) (k.1 (c - 1) (by omega))
      have h3 : bg F c = bg F (c - 1) + (F (bg F (c - 1))).2.1 := by
        have : c = c - 1 + 1 := by omega
        rw [this]
        rfl
      omega
    · exact q.2
/-- going over what is scanned anew, until one would begin where an old one does: symbols looked at, tokens -/
def gov (F : Nat → Nat × Nat × Int) (n : Nat) (stop : Nat → Bool) : Nat → Nat → Int → Int → Int × Int
  | 0, _, rd, an => (rd, an)
  | f + 1, x, rd, an => if x < n ∧ stop x = false then (if (F x).2.1 = 0 then (rd + (F x).1, an) else gov F n stop f (x + (F x).2.1) (rd + (F x).1) (an + 1)) else (rd, an)
/-- where it stops -/
def St (F : Nat → Nat × Nat × Int) (c p o m : Nat) (stop : Nat → Bool) : Prop := ∀ x, stop x = true ↔ p + m ≤ x ∧ ∃ i, i < c ∧ bg F i + m = x + o
/-- what an edit reads, and how many tokens are scanned anew -/
def EdR (F F' : Nat → Nat × Nat × Int) (n' c p : Nat) (stop : Nat → Bool) (q : Int × Int) : Prop := ∃ i, IsF F p c i ∧ (i = c ∧ 0 < c ∧ q = (0, 0) ∨ ¬ (i = c ∧ 0 < c) ∧ q = gov F' n' stop 402 (bg F' i) 0 0)
theorem EdR_uniq {F F' : Nat → Nat × Nat × Int} {n' c p : Nat} {stop : Nat → Bool} {q r : Int × Int} (h : EdR F F' n' c p stop q) (k : EdR F F' n' c p stop r) : q = r := by
  obtain ⟨i, hi, h⟩ := h
  obtain ⟨j, hj, k⟩ := k
  have e := IsF_uniq hi hj
  subst e
  rcases h with ⟨h1, h2, h3⟩ | ⟨h1, h2⟩ <;> rcases k with ⟨k1, k2, k3⟩ | ⟨k1, k2⟩
  · rw [h3, k3]
  · exact absurd ⟨h1, h2⟩ k1
  · exact absurd ⟨k1, k2⟩ h1
  · rw [h2, k2]
end
section
section ZT
variable {p : Program} {l : Launch} {e : Env} {R : Room} {s : State} {m : MethodId} {args : Array Value} {below : List Frame} {meth : Method} {c : Code} {H : Heap} {locs : List Loc} {cells slots : Nat} {Q : State → Prop}
variable {cc : ByteArray} {nL : Nat} {own : String} {pc : Nat} {ls : Array Slot} {rest : List Value} {D : va_G} {cA : Nat → ClassId} {z : Int}
theorem z_tin (X : Cx p s m args c cc nL own D cA) {dflt lo hi off : Int} {offs : Array Int} {len tgt : Nat} (d : decode cc pc = .ok (.tableswitch dflt lo hi offs, len)) (hz : -2147483648 ≤ z ∧ z < 2147483648) (j : Int) (hj : z = j) (h1 : lo ≤ j ∧ j ≤ hi) (ho : offs[(j - lo).toNat]? = some off) (ht : (pc : Int) + off = (tgt : Int)) (k : W p l e R s m args below meth c H locs cells slots Q (F0 m tgt ls rest)) : W p l e R s m args below meth c H locs cells slots Q (F0 m pc ls (.int (iI z) :: rest)) := by
  subst hj
  refine lv_tableIn X.1 X.2.1 d ?_ ?_ (off := off) ?_ ht k
  · rw [iI_toInt hz]; omega
  · rw [iI_toInt hz]; omega
  · rw [iI_toInt hz]; exact ho
theorem z_tout (X : Cx p s m args c cc nL own D cA) {dflt lo hi : Int} {offs : Array Int} {len tgt : Nat} (d : decode cc pc = .ok (.tableswitch dflt lo hi offs, len)) (hz : -2147483648 ≤ z ∧ z < 2147483648) (h : z < lo ∨ hi < z) (ht : (pc : Int) + dflt = (tgt : Int)) (k : W p l e R s m args below meth c H locs cells slots Q (F0 m tgt ls rest)) : W p l e R s m args below meth c H locs cells slots Q (F0 m pc ls (.int (iI z) :: rest)) := lv_tableOut X.1 X.2.1 d (by rw [iI_toInt hz]; exact h) ht k
end ZT
theorem IsC_le {F : Nat → Nat × Nat × Int} {n c : Nat} (h : IsC F n c) : c ≤ n := by
  rcases Nat.eq_zero_or_pos c with q | q
  · omega
  · have h1 := bg_strict h.2.1 (c - 1) 0 (by omega)
    have h2 := h.1 (c - 1) (by omega)
    rw [Nat.zero_add] at h1
    omega
/-- the scanner's cells and what they mean: tables a kt, the text t of n symbols, cn scanned ones; d and g: the gaps -/
def CI (a kt t : Nat → Int) (n cn : Nat) (gA gK row P S L K : Nat → Int) (yl d cl g : Nat) : Prop := Rg a kt t n ∧ (∀ j, j < 200 → gA j = a j) ∧ (∀ j, j < 20 → gK j = kt j) ∧ yl + d ≤ 400 ∧ n + d = 400 ∧ (∀ i, i < n → sX row yl (yl + d) i = t i) ∧ cl + g ≤ 401 ∧ cn + g = 401 ∧ IsC (sc a kt t n) n cn ∧ ∀ i, i < cn → sP P cl (cl + g) n i = (bg (sc a kt t n) i : Nat) ∧ sX S cl (cl + g) i = ((sc a kt t n (bg (sc a kt t n) i)).2.1 : Nat) ∧ sX L cl (cl + g) i = ((sc a kt t n (bg (sc a kt t n) i)).1 : Nat) ∧ sX K cl (cl + g) i = (sc a kt t n (bg (sc a kt t n) i)).2.2
/-- how many tokens -/
def TK (F : Nat → Nat × Nat × Int) (cn T : Nat) : Prop := Fl F cn ∧ T + 1 = cn ∨ ¬ Fl F cn ∧ T = cn
theorem TK_ex (F : Nat → Nat × Nat × Int) (cn : Nat) : ∃ T, TK F cn T := by
  by_cases q : Fl F cn
  · exact ⟨cn - 1, Or.inl ⟨q, by have := q.1; omega⟩⟩
  · exact ⟨cn, Or.inr ⟨q, rfl⟩⟩
theorem TK_pos {F : Nat → Nat × Nat × Int} {n cn T : Nat} (h : TK F cn T) (k : IsC F n cn) : ∀ j, j < T → 0 < (F (bg F j)).2.1 := by
  intro j hj
  rcases h with ⟨h1, h2⟩ | ⟨h1, h2⟩
  · exact k.2.1 j (by omega)
  · by_cases q : j + 1 < cn
    · exact k.2.1 j q
    · rcases Nat.eq_zero_or_pos (F (bg F j)).2.1 with e | e
      · exact absurd ⟨by omega, by rw [show cn - 1 = j by omega]; exact e⟩ h1
      · exact e
theorem sy_eq {f t : Nat → Int} {n n' : Nat} (h : ∀ i, i < n → f i = t i) (e : n' = n) (z : Int) : sy f n' z = sy t n z := by
  subst e
  unfold sy
  split
  · exact h _ (by omega)
  · rfl
theorem nx_eq {f a : Nat → Int} (h : ∀ j, j < 200 → f j = a j) {st : Nat} (hs : st < 20) {c : Int} (hc : c = -1 ∨ 0 ≤ c ∧ c < 10) : nx f st c = nx a st c := by
  unfold nx
  split
  · rfl
  · exact h _ (by omega)
theorem sl_end {a kt t : Nat → Int} {n p : Nat} (f lk sz : Nat) (kd : Int) : sl a kt t n p f (-1) lk sz kd = (lk, sz, kd) := by
  cases f with
  | zero => rfl
  | succ f => unfold sl; rw [if_pos rfl]
theorem sl_no {a kt t : Nat → Int} {n p sn f lk sz : Nat} {kd s2 : Int} (h : s2 = nx a sn (sy t n ((p + lk : Nat) : Int))) (q : s2 = -1 ∨ kt s2.toNat = -1) : sl a kt t n p (f + 1) (sn : Int) lk sz kd = sl a kt t n p f s2 (lk + 1) sz kd := by
  subst h
  conv => lhs; unfold sl
  rw [if_neg (by omega), Int.toNat_natCast, if_neg (fun w => q.elim w.1 w.2)]
theorem sl_yes {a kt t : Nat → Int} {n p sn f lk sz : Nat} {kd s2 : Int} (h : s2 = nx a sn (sy t n ((p + lk : Nat) : Int))) (q1 : ¬ s2 = -1) (q2 : ¬ kt s2.toNat = -1) : sl a kt t n p (f + 1) (sn : Int) lk sz kd = sl a kt t n p f s2 (lk + 1) (lk + 1) (kt s2.toNat) := by
  subst h
  conv => lhs; unfold sl
  rw [if_neg (by omega), Int.toNat_natCast, if_pos ⟨q1, q2⟩]
/-- all symbols of a long are symbols -/
def aS (v : Int64) (k : Nat) : Prop := ∀ j, j < k → nb v (4 * (j : Int)) < 10
theorem x_Sn_slot : y_Sn_slot.cls ≠ "java/lang/invoke/MethodHandle" ∧ y_Sn_slot.cls ≠ "java/lang/invoke/VarHandle" ∧ (parseMethodDescriptor y_Sn_slot.desc).map (fun d => d.parameters.length) = some 1 := by decide +kernel
theorem x_Sy_init : y_Sy_init.cls ≠ "java/lang/invoke/MethodHandle" ∧ y_Sy_init.cls ≠ "java/lang/invoke/VarHandle" ∧ (parseMethodDescriptor y_Sy_init.desc).map (fun d => d.parameters.length) = some 0 := by decide +kernel
theorem x_Sn_init : y_Sn_init.cls ≠ "java/lang/invoke/MethodHandle" ∧ y_Sn_init.cls ≠ "java/lang/invoke/VarHandle" ∧ (parseMethodDescriptor y_Sn_init.desc).map (fun d => d.parameters.length) = some 0 := by decide +kernel
end
section
set_option maxHeartbeats 4000000 in
set_option maxRecDepth 100000 in
/-- a state -/
theorem c_Ed_isState (l : Launch) (D : va_G) (cA : Nat → ClassId)  (hs : Nat) (z0 : Int) (hz : -2147483648 ≤ z0 ∧ z0 < 2147483648) : Met l y_Ed_isState (cW y_Ed_isState b_Ed_isState 1 (some .boolean)) (rM 0 0) (zP [.int (iI z0)] D cA [] hs) (Qro (fun z => z = 1 ∧ (0 ≤ z0 ∧ z0 < 20) ∨ z = 0 ∧ ¬ (0 ≤ z0 ∧ z0 < 20))) 0 0 (fun _ => False) := by
  refine z_ofW (lv := [(0, .int (iI z0))]) (by decide) (Nat.le_of_ble_eq_true rfl) rfl ?_
  intro p e s m below meth c ls hr hlk hnm X hhs hw hl
  have X : Cx p s m ([.int (iI z0)] : List Value).toArray c b_Ed_isState 1 R_Ed D cA := X
  refine lv_iload_n X.1 X.2.1 d_Ed_isState_0 rfl (lv_at hl 0 rfl) ?_
  refine z_if_lt (tgt := 14) X d_Ed_isState_1 (by decide) (by omega) (fun c_1 => ?_) (fun c_1 => ?_)
  · refine z_iconst X d_Ed_isState_14 ?_
    exact z_iretR X hr hlk (by decide) (by omega) d_Ed_isState_15
  · refine lv_iload_n X.1 X.2.1 d_Ed_isState_4 rfl (lv_at hl 0 rfl) ?_
    refine z_bipush X d_Ed_isState_5 (by decide) ?_
    refine z_icmp_ge (tgt := 14) X d_Ed_isState_7 (by decide) (by omega) (by omega) (fun c_7 => ?_) (fun c_7 => ?_)
    · refine z_iconst X d_Ed_isState_14 ?_
      exact z_iretR X hr hlk (by decide) (by omega) d_Ed_isState_15
    · refine z_iconst X d_Ed_isState_10 ?_
      refine z_goto (tgt := 15) X d_Ed_isState_11 (by decide) ?_
      exact z_iretR X hr hlk (by decide) (by omega) d_Ed_isState_15
set_option maxHeartbeats 4000000 in
set_option maxRecDepth 100000 in
/-- not taken -/
theorem c_Ed_arrow_bad (l : Launch) (D : va_G) (cA : Nat → ClassId) (h : Nat → Nat) (hs : Nat) (gA gK row P S L K : Nat → Int) (yl d cl g : Nat) (rd an ed sz lk kd : Int) (z1 z2 z3 : Int) (hz1 : -2147483648 ≤ z1 ∧ z1 < 2147483648) (hz2 : -2147483648 ≤ z2 ∧ z2 < 2147483648) (hz3 : -2147483648 ≤ z3 ∧ z3 < 2147483648) (hyd : yl + d ≤ 400) (hbad : ¬ (0 ≤ z1 ∧ z1 < 20 ∧ 0 ≤ z2 ∧ z2 < 10 ∧ -1 ≤ z3 ∧ z3 < 20 ∧ d = 400)) : Met l y_Ed_arrow (cW y_Ed_arrow b_Ed_arrow 4 (some .boolean)) (rM 1 20) (zP [.ref (h 0), .int (iI z1), .int (iI z2), .int (iI z3)] D cA (w_Ed h cA gA gK row (yl:Int) ((yl + d : Nat):Int) P S L K (cl:Int) ((cl + g : Nat):Int) rd an ed sz lk kd) hs) (Qro (fun z => z = 0)) 0 0 (fun _ => False) := by
  refine z_ofW (lv := [(0, .ref (h 0)), (1, .int (iI z1)), (2, .int (iI z2)), (3, .int (iI z3))]) (by decide) (Nat.le_of_ble_eq_true rfl) rfl ?_
  intro p e s m below meth c ls hr hlk hnm X hhs hw hl
  have X : Cx p s m ([.ref (h 0), .int (iI z1), .int (iI z2), .int (iI z3)] : List Value).toArray c b_Ed_arrow 4 R_Ed D cA := X
  refine lv_iload_n X.1 X.2.1 d_Ed_arrow_0 rfl (lv_at hl 1 rfl) ?_
  refine z_callRS (rest := []) X hw v_Ed_30 [.int (iI z1)] (c_Ed_isState l D cA _ z1 (by omega)) rfl hl.1 rfl (Nat.le_of_ble_eq_true rfl) ⟨rfl, rfl, Nat.le_of_ble_eq_true rfl, Nat.le_of_ble_eq_true rfl⟩ ⟨Nat.le_of_ble_eq_true rfl, Nat.le_of_ble_eq_true rfl⟩ d_Ed_arrow_1 (fun z_1 hz_1 => ?_)
  refine z_if_eq (tgt := 39) X d_Ed_arrow_4 (by decide) (by omega) (fun c_4 => ?_) (fun c_4 => ?_)
  · refine z_iconst X d_Ed_arrow_39 ?_
    exact z_iretR X hr hlk (by decide) rfl d_Ed_arrow_40
  · refine lv_iload_n X.1 X.2.1 d_Ed_arrow_7 rfl (lv_at hl 2 rfl) ?_
    refine z_if_lt (tgt := 39) X d_Ed_arrow_8 (by decide) (by omega) (fun c_8 => ?_) (fun c_8 => ?_)
    · refine z_iconst X d_Ed_arrow_39 ?_
      exact z_iretR X hr hlk (by decide) rfl d_Ed_arrow_40
    · refine lv_iload_n X.1 X.2.1 d_Ed_arrow_11 rfl (lv_at hl 2 rfl) ?_
      refine z_bipush X d_Ed_arrow_12 (by decide) ?_
      refine z_icmp_ge (tgt := 39) X d_Ed_arrow_14 (by decide) (by omega) (by omega) (fun c_14 => ?_) (fun c_14 => ?_)
      · refine z_iconst X d_Ed_arrow_39 ?_
        exact z_iretR X hr hlk (by decide) rfl d_Ed_arrow_40
      · refine lv_iload_n X.1 X.2.1 d_Ed_arrow_17 rfl (lv_at hl 3 rfl) ?_
        refine z_iconst X d_Ed_arrow_18 ?_
        refine z_icmp_eq (tgt := 29) X d_Ed_arrow_19 (by decide) (by omega) (by omega) (fun c_19 => ?_) (fun c_19 => ?_)
        · refine lv_aload_n X.1 X.2.1 d_Ed_arrow_29 rfl (lv_at hl 0 rfl) ?_
          refine z_get X hw k_Ed 0 rfl 1 (by decide) rfl m_fl_Ed_19 rfl d_Ed_arrow_30 ?_
          refine z_callR (rest := []) X hw k_Sy v_Ed_34 [] (c_Sy_size l D cA h _ (yl:Int) ((yl + d : Nat):Int)) 4 rfl [4] rfl rfl rfl rfl hl.1 rfl (Nat.le_of_ble_eq_true rfl) ⟨rfl, rfl, Nat.le_of_ble_eq_true rfl, Nat.le_of_ble_eq_true rfl⟩ ⟨Nat.le_of_ble_eq_true rfl, Nat.le_of_ble_eq_true rfl⟩ d_Ed_arrow_33 (fun z_33 hz_33 => ?_)
          subst hz_33
          refine z_if_le (tgt := 41) X d_Ed_arrow_36 (by decide) (by omega) (fun c_36 => ?_) (fun c_36 => ?_)
          · exfalso; omega
          · refine z_iconst X d_Ed_arrow_39 ?_
            exact z_iretR X hr hlk (by decide) rfl d_Ed_arrow_40
        · refine lv_iload_n X.1 X.2.1 d_Ed_arrow_22 rfl (lv_at hl 3 rfl) ?_
          refine z_callRS (rest := []) X hw v_Ed_30 [.int (iI z3)] (c_Ed_isState l D cA _ z3 (by omega)) rfl hl.1 rfl (Nat.le_of_ble_eq_true rfl) ⟨rfl, rfl, Nat.le_of_ble_eq_true rfl, Nat.le_of_ble_eq_true rfl⟩ ⟨Nat.le_of_ble_eq_true rfl, Nat.le_of_ble_eq_true rfl⟩ d_Ed_arrow_23 (fun z_23 hz_23 => ?_)
          refine z_if_eq (tgt := 39) X d_Ed_arrow_26 (by decide) (by omega) (fun c_26 => ?_) (fun c_26 => ?_)
          · refine z_iconst X d_Ed_arrow_39 ?_
            exact z_iretR X hr hlk (by decide) rfl d_Ed_arrow_40
          · refine lv_aload_n X.1 X.2.1 d_Ed_arrow_29 rfl (lv_at hl 0 rfl) ?_
            refine z_get X hw k_Ed 0 rfl 1 (by decide) rfl m_fl_Ed_19 rfl d_Ed_arrow_30 ?_
            refine z_callR (rest := []) X hw k_Sy v_Ed_34 [] (c_Sy_size l D cA h _ (yl:Int) ((yl + d : Nat):Int)) 4 rfl [4] rfl rfl rfl rfl hl.1 rfl (Nat.le_of_ble_eq_true rfl) ⟨rfl, rfl, Nat.le_of_ble_eq_true rfl, Nat.le_of_ble_eq_true rfl⟩ ⟨Nat.le_of_ble_eq_true rfl, Nat.le_of_ble_eq_true rfl⟩ d_Ed_arrow_33 (fun z_33 hz_33 => ?_)
            subst hz_33
            refine z_if_le (tgt := 41) X d_Ed_arrow_36 (by decide) (by omega) (fun c_36 => ?_) (fun c_36 => ?_)
            · exfalso; omega
            · refine z_iconst X d_Ed_arrow_39 ?_
              exact z_iretR X hr hlk (by decide) rfl d_Ed_arrow_40
set_option maxHeartbeats 4000000 in
set_option maxRecDepth 100000 in
/-- not taken -/
theorem c_Ed_kind_bad (l : Launch) (D : va_G) (cA : Nat → ClassId) (h : Nat → Nat) (hs : Nat) (gA gK row P S L K : Nat → Int) (yl d cl g : Nat) (rd an ed sz lk kd : Int) (z1 z2 : Int) (hz1 : -2147483648 ≤ z1 ∧ z1 < 2147483648) (hz2 : -2147483648 ≤ z2 ∧ z2 < 2147483648) (hyd : yl + d ≤ 400) (hbad : ¬ (0 ≤ z1 ∧ z1 < 20 ∧ -1 ≤ z2 ∧ z2 < 100 ∧ d = 400)) : Met l y_Ed_kind (cW y_Ed_kind b_Ed_kind 3 (some .boolean)) (rM 1 20) (zP [.ref (h 0), .int (iI z1), .int (iI z2)] D cA (w_Ed h cA gA gK row (yl:Int) ((yl + d : Nat):Int) P S L K (cl:Int) ((cl + g : Nat):Int) rd an ed sz lk kd) hs) (Qro (fun z => z = 0)) 0 0 (fun _ => False) := by
  refine z_ofW (lv := [(0, .ref (h 0)), (1, .int (iI z1)), (2, .int (iI z2))]) (by decide) (Nat.le_of_ble_eq_true rfl) rfl ?_
  intro p e s m below meth c ls hr hlk hnm X hhs hw hl
  have X : Cx p s m ([.ref (h 0), .int (iI z1), .int (iI z2)] : List Value).toArray c b_Ed_kind 3 R_Ed D cA := X
  refine lv_iload_n X.1 X.2.1 d_Ed_kind_0 rfl (lv_at hl 1 rfl) ?_
  refine z_callRS (rest := []) X hw v_Ed_30 [.int (iI z1)] (c_Ed_isState l D cA _ z1 (by omega)) rfl hl.1 rfl (Nat.le_of_ble_eq_true rfl) ⟨rfl, rfl, Nat.le_of_ble_eq_true rfl, Nat.le_of_ble_eq_true rfl⟩ ⟨Nat.le_of_ble_eq_true rfl, Nat.le_of_ble_eq_true rfl⟩ d_Ed_kind_1 (fun z_1 hz_1 => ?_)
  refine z_if_eq (tgt := 28) X d_Ed_kind_4 (by decide) (by omega) (fun c_4 => ?_) (fun c_4 => ?_)
  · refine z_iconst X d_Ed_kind_28 ?_
    exact z_iretR X hr hlk (by decide) rfl d_Ed_kind_29
  · refine lv_iload_n X.1 X.2.1 d_Ed_kind_7 rfl (lv_at hl 2 rfl) ?_
    refine z_iconst X d_Ed_kind_8 ?_
    refine z_icmp_lt (tgt := 28) X d_Ed_kind_9 (by decide) (by omega) (by omega) (fun c_9 => ?_) (fun c_9 => ?_)
    · refine z_iconst X d_Ed_kind_28 ?_
      exact z_iretR X hr hlk (by decide) rfl d_Ed_kind_29
    · refine lv_iload_n X.1 X.2.1 d_Ed_kind_12 rfl (lv_at hl 2 rfl) ?_
      refine z_bipush X d_Ed_kind_13 (by decide) ?_
      refine z_icmp_ge (tgt := 28) X d_Ed_kind_15 (by decide) (by omega) (by omega) (fun c_15 => ?_) (fun c_15 => ?_)
      · refine z_iconst X d_Ed_kind_28 ?_
        exact z_iretR X hr hlk (by decide) rfl d_Ed_kind_29
      · refine lv_aload_n X.1 X.2.1 d_Ed_kind_18 rfl (lv_at hl 0 rfl) ?_
        refine z_get X hw k_Ed 0 rfl 1 (by decide) rfl m_fl_Ed_19 rfl d_Ed_kind_19 ?_
        refine z_callR (rest := []) X hw k_Sy v_Ed_34 [] (c_Sy_size l D cA h _ (yl:Int) ((yl + d : Nat):Int)) 4 rfl [4] rfl rfl rfl rfl hl.1 rfl (Nat.le_of_ble_eq_true rfl) ⟨rfl, rfl, Nat.le_of_ble_eq_true rfl, Nat.le_of_ble_eq_true rfl⟩ ⟨Nat.le_of_ble_eq_true rfl, Nat.le_of_ble_eq_true rfl⟩ d_Ed_kind_22 (fun z_22 hz_22 => ?_)
        subst hz_22
        refine z_if_le (tgt := 30) X d_Ed_kind_25 (by decide) (by omega) (fun c_25 => ?_) (fun c_25 => ?_)
        · exfalso; omega
        · refine z_iconst X d_Ed_kind_28 ?_
          exact z_iretR X hr hlk (by decide) rfl d_Ed_kind_29
set_option maxHeartbeats 4000000 in
set_option maxRecDepth 100000 in
/-- taken -/
theorem c_Ed_arrow_good (l : Launch) (D : va_G) (cA : Nat → ClassId) (h : Nat → Nat) (hs : Nat) (gA gK row P S L K : Nat → Int) (yl d cl g : Nat) (rd an ed sz lk kd : Int) (st sm : Nat) (z3 : Int) (hst : st < 20) (hsm : sm < 10) (hz3 : -1 ≤ z3 ∧ z3 < 20) (hyl : yl + d ≤ 400) (hd4 : d = 400) : Met l y_Ed_arrow (cW y_Ed_arrow b_Ed_arrow 4 (some .boolean)) (rM 1 20) (zP [.ref (h 0), .int (iI (st:Int)), .int (iI (sm:Int)), .int (iI z3)] D cA (w_Ed h cA gA gK row (yl:Int) ((yl + d : Nat):Int) P S L K (cl:Int) ((cl + g : Nat):Int) rd an ed sz lk kd) hs) (zQi (fun (z : Int) (_ : Unit) => z = 1) (fun _ => (w_Ed h cA (uz gA (10 * st + sm) z3) gK row (yl:Int) ((yl + d : Nat):Int) P S L K (cl:Int) ((cl + g : Nat):Int) rd an ed sz lk kd)) D (w_Ed h cA gA gK row (yl:Int) ((yl + d : Nat):Int) P S L K (cl:Int) ((cl + g : Nat):Int) rd an ed sz lk kd) hs) 0 0 (va_A (w_Ed h cA gA gK row (yl:Int) ((yl + d : Nat):Int) P S L K (cl:Int) ((cl + g : Nat):Int) rd an ed sz lk kd) hs) := by
  refine z_ofW (lv := [(0, .ref (h 0)), (1, .int (iI (st:Int))), (2, .int (iI (sm:Int))), (3, .int (iI z3))]) (by decide) (Nat.le_of_ble_eq_true rfl) rfl ?_
  intro p e s m below meth c ls hr hlk hnm X hhs hw hl
  have X : Cx p s m ([.ref (h 0), .int (iI (st:Int)), .int (iI (sm:Int)), .int (iI z3)] : List Value).toArray c b_Ed_arrow 4 R_Ed D cA := X
  refine lv_iload_n X.1 X.2.1 d_Ed_arrow_0 rfl (lv_at hl 1 rfl) ?_
  refine z_callRS (rest := []) X hw v_Ed_30 [.int (iI (st:Int))] (c_Ed_isState l D cA _ (st:Int) (by omega)) rfl hl.1 rfl (Nat.le_of_ble_eq_true rfl) ⟨rfl, rfl, Nat.le_of_ble_eq_true rfl, Nat.le_of_ble_eq_true rfl⟩ ⟨Nat.le_of_ble_eq_true rfl, Nat.le_of_ble_eq_true rfl⟩ d_Ed_arrow_1 (fun z_1 hz_1 => ?_)
  refine z_if_eq (tgt := 39) X d_Ed_arrow_4 (by decide) (by omega) (fun c_4 => ?_) (fun c_4 => ?_)
  · exfalso; omega
  · refine lv_iload_n X.1 X.2.1 d_Ed_arrow_7 rfl (lv_at hl 2 rfl) ?_
    refine z_if_lt (tgt := 39) X d_Ed_arrow_8 (by decide) (by omega) (fun c_8 => ?_) (fun c_8 => ?_)
    · exfalso; omega
    · refine lv_iload_n X.1 X.2.1 d_Ed_arrow_11 rfl (lv_at hl 2 rfl) ?_
      refine z_bipush X d_Ed_arrow_12 (by decide) ?_
      refine z_icmp_ge (tgt := 39) X d_Ed_arrow_14 (by decide) (by omega) (by omega) (fun c_14 => ?_) (fun c_14 => ?_)
      · exfalso; omega
      · refine lv_iload_n X.1 X.2.1 d_Ed_arrow_17 rfl (lv_at hl 3 rfl) ?_
        refine z_iconst X d_Ed_arrow_18 ?_
        refine z_icmp_eq (tgt := 29) X d_Ed_arrow_19 (by decide) (by omega) (by omega) (fun c_19 => ?_) (fun c_19 => ?_)
        · refine lv_aload_n X.1 X.2.1 d_Ed_arrow_29 rfl (lv_at hl 0 rfl) ?_
          refine z_get X hw k_Ed 0 rfl 1 (by decide) rfl m_fl_Ed_19 rfl d_Ed_arrow_30 ?_
          refine z_callR (rest := []) X hw k_Sy v_Ed_34 [] (c_Sy_size l D cA h _ (yl:Int) ((yl + d : Nat):Int)) 4 rfl [4] rfl rfl rfl rfl hl.1 rfl (Nat.le_of_ble_eq_true rfl) ⟨rfl, rfl, Nat.le_of_ble_eq_true rfl, Nat.le_of_ble_eq_true rfl⟩ ⟨Nat.le_of_ble_eq_true rfl, Nat.le_of_ble_eq_true rfl⟩ d_Ed_arrow_33 (fun z_33 hz_33 => ?_)
          subst hz_33
          refine z_if_le (tgt := 41) X d_Ed_arrow_36 (by decide) (by omega) (fun c_36 => ?_) (fun c_36 => ?_)
          · refine lv_aload_n X.1 X.2.1 d_Ed_arrow_41 rfl (lv_at hl 0 rfl) ?_
            refine z_get X hw k_Ed 0 rfl 0 (by decide) rfl m_fl_Ed_10 rfl d_Ed_arrow_42 ?_
            refine z_getN X hw k_Tb 1 rfl 0 (by decide) rfl (f_Ed_38 X.2.2.2.2.2.2) rfl d_Ed_arrow_45 ?_
            refine z_bipush X d_Ed_arrow_48 (by decide) ?_
            refine lv_iload_n X.1 X.2.1 d_Ed_arrow_50 rfl (lv_at hl 1 rfl) ?_
            refine z_imul (r := (10 * (st:Int))) X d_Ed_arrow_51 rfl ?_
            refine lv_iload_n X.1 X.2.1 d_Ed_arrow_52 rfl (lv_at hl 2 rfl) ?_
            refine z_iadd (r := ((10 * (st:Int)) + (sm:Int))) X d_Ed_arrow_53 rfl ?_
            refine lv_iload_n X.1 X.2.1 d_Ed_arrow_54 rfl (lv_at hl 3 rfl) ?_
            refine z_i2b X d_Ed_arrow_55 (by omega) ?_
            refine z_bast (ws' := (w_Ed h cA (uz gA (10 * st + sm) z3) gK row (yl:Int) ((yl + d : Nat):Int) P S L K (cl:Int) ((cl + g : Nat):Int) rd an ed sz lk kd)) X hw 2 rfl (10 * st + sm) (by omega) (by omega) (by decide) (by omega) d_Ed_arrow_56 rfl (fun H locs hw => ?_)
            refine z_iconst X d_Ed_arrow_57 ?_
            exact z_iret X hr hlk (by decide) () rfl hw d_Ed_arrow_58
          · exfalso; omega
        · refine lv_iload_n X.1 X.2.1 d_Ed_arrow_22 rfl (lv_at hl 3 rfl) ?_
          refine z_callRS (rest := []) X hw v_Ed_30 [.int (iI z3)] (c_Ed_isState l D cA _ z3 (by omega)) rfl hl.1 rfl (Nat.le_of_ble_eq_true rfl) ⟨rfl, rfl, Nat.le_of_ble_eq_true rfl, Nat.le_of_ble_eq_true rfl⟩ ⟨Nat.le_of_ble_eq_true rfl, Nat.le_of_ble_eq_true rfl⟩ d_Ed_arrow_23 (fun z_23 hz_23 => ?_)
          refine z_if_eq (tgt := 39) X d_Ed_arrow_26 (by decide) (by omega) (fun c_26 => ?_) (fun c_26 => ?_)
          · exfalso; omega
          · refine lv_aload_n X.1 X.2.1 d_Ed_arrow_29 rfl (lv_at hl 0 rfl) ?_
            refine z_get X hw k_Ed 0 rfl 1 (by decide) rfl m_fl_Ed_19 rfl d_Ed_arrow_30 ?_
            refine z_callR (rest := []) X hw k_Sy v_Ed_34 [] (c_Sy_size l D cA h _ (yl:Int) ((yl + d : Nat):Int)) 4 rfl [4] rfl rfl rfl rfl hl.1 rfl (Nat.le_of_ble_eq_true rfl) ⟨rfl, rfl, Nat.le_of_ble_eq_true rfl, Nat.le_of_ble_eq_true rfl⟩ ⟨Nat.le_of_ble_eq_true rfl, Nat.le_of_ble_eq_true rfl⟩ d_Ed_arrow_33 (fun z_33 hz_33 => ?_)
            subst hz_33
            refine z_if_le (tgt := 41) X d_Ed_arrow_36 (by decide) (by omega) (fun c_36 => ?_) (fun c_36 => ?_)
            · refine lv_aload_n X.1 X.2.1 d_Ed_arrow_41 rfl (lv_at hl 0 rfl) ?_
              refine z_get X hw k_Ed 0 rfl 0 (by decide) rfl m_fl_Ed_10 rfl d_Ed_arrow_42 ?_
              refine z_getN X hw k_Tb 1 rfl 0 (by decide) rfl (f_Ed_38 X.2.2.2.2.2.2) rfl d_Ed_arrow_45 ?_
              refine z_bipush X d_Ed_arrow_48 (by decide) ?_
              refine lv_iload_n X.1 X.2.1 d_Ed_arrow_50 rfl (lv_at hl 1 rfl) ?_
              refine z_imul (r := (10 * (st:Int))) X d_Ed_arrow_51 rfl ?_
              refine lv_iload_n X.1 X.2.1 d_Ed_arrow_52 rfl (lv_at hl 2 rfl) ?_
              refine z_iadd (r := ((10 * (st:Int)) + (sm:Int))) X d_Ed_arrow_53 rfl ?_
              refine lv_iload_n X.1 X.2.1 d_Ed_arrow_54 rfl (lv_at hl 3 rfl) ?_
              refine z_i2b X d_Ed_arrow_55 (by omega) ?_
              refine z_bast (ws' := (w_Ed h cA (uz gA (10 * st + sm) z3) gK row (yl:Int) ((yl + d : Nat):Int) P S L K (cl:Int) ((cl + g : Nat):Int) rd an ed sz lk kd)) X hw 2 rfl (10 * st + sm) (by omega) (by omega) (by decide) (by omega) d_Ed_arrow_56 rfl (fun H locs hw => ?_)
              refine z_iconst X d_Ed_arrow_57 ?_
              exact z_iret X hr hlk (by decide) () rfl hw d_Ed_arrow_58
            · exfalso; omega
set_option maxHeartbeats 4000000 in
set_option maxRecDepth 100000 in
/-- taken -/
theorem c_Ed_kind_good (l : Launch) (D : va_G) (cA : Nat → ClassId) (h : Nat → Nat) (hs : Nat) (gA gK row P S L K : Nat → Int) (yl d cl g : Nat) (rd an ed sz lk kd : Int) (st : Nat) (z2 : Int) (hst : st < 20) (hz2 : -1 ≤ z2 ∧ z2 < 100) (hyl : yl + d ≤ 400) (hd4 : d = 400) : Met l y_Ed_kind (cW y_Ed_kind b_Ed_kind 3 (some .boolean)) (rM 1 20) (zP [.ref (h 0), .int (iI (st:Int)), .int (iI z2)] D cA (w_Ed h cA gA gK row (yl:Int) ((yl + d : Nat):Int) P S L K (cl:Int) ((cl + g : Nat):Int) rd an ed sz lk kd) hs) (zQi (fun (z : Int) (_ : Unit) => z = 1) (fun _ => (w_Ed h cA gA (uz gK st z2) row (yl:Int) ((yl + d : Nat):Int) P S L K (cl:Int) ((cl + g : Nat):Int) rd an ed sz lk kd)) D (w_Ed h cA gA gK row (yl:Int) ((yl + d : Nat):Int) P S L K (cl:Int) ((cl + g : Nat):Int) rd an ed sz lk kd) hs) 0 0 (va_A (w_Ed h cA gA gK row (yl:Int) ((yl + d : Nat):Int) P S L K (cl:Int) ((cl + g : Nat):Int) rd an ed sz lk kd) hs) := by
  refine z_ofW (lv := [(0, .ref (h 0)), (1, .int (iI (st:Int))), (2, .int (iI z2))]) (by decide) (Nat.le_of_ble_eq_true rfl) rfl ?_
  intro p e s m below meth c ls hr hlk hnm X hhs hw hl
  have X : Cx p s m ([.ref (h 0), .int (iI (st:Int)), .int (iI z2)] : List Value).toArray c b_Ed_kind 3 R_Ed D cA := X
  refine lv_iload_n X.1 X.2.1 d_Ed_kind_0 rfl (lv_at hl 1 rfl) ?_
  refine z_callRS (rest := []) X hw v_Ed_30 [.int (iI (st:Int))] (c_Ed_isState l D cA _ (st:Int) (by omega)) rfl hl.1 rfl (Nat.le_of_ble_eq_true rfl) ⟨rfl, rfl, Nat.le_of_ble_eq_true rfl, Nat.le_of_ble_eq_true rfl⟩ ⟨Nat.le_of_ble_eq_true rfl, Nat.le_of_ble_eq_true rfl⟩ d_Ed_kind_1 (fun z_1 hz_1 => ?_)
  refine z_if_eq (tgt := 28) X d_Ed_kind_4 (by decide) (by omega) (fun c_4 => ?_) (fun c_4 => ?_)
  · exfalso; omega
  · refine lv_iload_n X.1 X.2.1 d_Ed_kind_7 rfl (lv_at hl 2 rfl) ?_
    refine z_iconst X d_Ed_kind_8 ?_
    refine z_icmp_lt (tgt := 28) X d_Ed_kind_9 (by decide) (by omega) (by omega) (fun c_9 => ?_) (fun c_9 => ?_)
    · exfalso; omega
    · refine lv_iload_n X.1 X.2.1 d_Ed_kind_12 rfl (lv_at hl 2 rfl) ?_
      refine z_bipush X d_Ed_kind_13 (by decide) ?_
      refine z_icmp_ge (tgt := 28) X d_Ed_kind_15 (by decide) (by omega) (by omega) (fun c_15 => ?_) (fun c_15 => ?_)
      · exfalso; omega
      · refine lv_aload_n X.1 X.2.1 d_Ed_kind_18 rfl (lv_at hl 0 rfl) ?_
        refine z_get X hw k_Ed 0 rfl 1 (by decide) rfl m_fl_Ed_19 rfl d_Ed_kind_19 ?_
        refine z_callR (rest := []) X hw k_Sy v_Ed_34 [] (c_Sy_size l D cA h _ (yl:Int) ((yl + d : Nat):Int)) 4 rfl [4] rfl rfl rfl rfl hl.1 rfl (Nat.le_of_ble_eq_true rfl) ⟨rfl, rfl, Nat.le_of_ble_eq_true rfl, Nat.le_of_ble_eq_true rfl⟩ ⟨Nat.le_of_ble_eq_true rfl, Nat.le_of_ble_eq_true rfl⟩ d_Ed_kind_22 (fun z_22 hz_22 => ?_)
        subst hz_22
        refine z_if_le (tgt := 30) X d_Ed_kind_25 (by decide) (by omega) (fun c_25 => ?_) (fun c_25 => ?_)
        · refine lv_aload_n X.1 X.2.1 d_Ed_kind_30 rfl (lv_at hl 0 rfl) ?_
          refine z_get X hw k_Ed 0 rfl 0 (by decide) rfl m_fl_Ed_10 rfl d_Ed_kind_31 ?_
          refine z_getN X hw k_Tb 1 rfl 1 (by decide) rfl (f_Ed_42 X.2.2.2.2.2.2) rfl d_Ed_kind_34 ?_
          refine lv_iload_n X.1 X.2.1 d_Ed_kind_37 rfl (lv_at hl 1 rfl) ?_
          refine lv_iload_n X.1 X.2.1 d_Ed_kind_38 rfl (lv_at hl 2 rfl) ?_
          refine z_i2b X d_Ed_kind_39 (by omega) ?_
          refine z_bast (ws' := (w_Ed h cA gA (uz gK st z2) row (yl:Int) ((yl + d : Nat):Int) P S L K (cl:Int) ((cl + g : Nat):Int) rd an ed sz lk kd)) X hw 3 rfl st (by omega) (by omega) (by decide) (by omega) d_Ed_kind_40 rfl (fun H locs hw => ?_)
          refine z_iconst X d_Ed_kind_41 ?_
          exact z_iret X hr hlk (by decide) () rfl hw d_Ed_kind_42
        · exfalso; omega
end
section
set_option maxHeartbeats 4000000 in
set_option maxRecDepth 100000 in
/-- a scan -/
theorem c_Ed_scan (l : Launch) (D : va_G) (cA : Nat → ClassId) (h : Nat → Nat) (hs : Nat) (a kt t : Nat → Int) (n : Nat) (gA gK row P S L K : Nat → Int) (yl d : Nat) (cl cr : Int) (rd an ed sz lk kd : Int) (ap : Nat) (hRg : Rg a kt t n) (hgA : ∀ j, j < 200 → gA j = a j) (hgK : ∀ j, j < 20 → gK j = kt j) (hyd : yl + d ≤ 400) (hnd : n + d = 400) (htx : ∀ i, i < n → sX row yl (yl + d) i = t i) (hat : ap < n) : Met l y_Ed_scan (cW y_Ed_scan b_Ed_scan 3 none) (rM 2 41) (zP [.ref (h 0), .int (iI (ap:Int))] D cA (w_Ed h cA gA gK row (yl:Int) ((yl + d : Nat):Int) P S L K cl cr rd an ed sz lk kd) hs) (zQv (fun u : Nat × Nat × Int => u = sc a kt t n ap) (fun u => (w_Ed h cA gA gK row (yl:Int) ((yl + d : Nat):Int) P S L K cl cr rd an ed (u.2.1 : Int) (u.1 : Int) u.2.2)) D (w_Ed h cA gA gK row (yl:Int) ((yl + d : Nat):Int) P S L K cl cr rd an ed sz lk kd) hs) 0 0 (va_A (w_Ed h cA gA gK row (yl:Int) ((yl + d : Nat):Int) P S L K cl cr rd an ed sz lk kd) hs) := by
  refine z_ofW (lv := [(0, .ref (h 0)), (1, .int (iI (ap:Int)))]) (by decide) (Nat.le_of_ble_eq_true rfl) rfl ?_
  intro p e s m below meth c ls hr hlk hnm X hhs hw hl
  have X : Cx p s m ([.ref (h 0), .int (iI (ap:Int))] : List Value).toArray c b_Ed_scan 3 R_Ed D cA := X
  have hn4 := hRg.2.2.2
  have lp : ∀ (f : Nat) (u : Nat) (st : Int) (l0 s0 : Nat) (k0 : Int), u < f → sl a kt t n ap u st l0 s0 k0 = sc a kt t n ap → (st = -1 ∨ (0 ≤ st ∧ st < 20 ∧ ap + l0 ≤ n)) → (st = -1 ∨ 402 ≤ l0 + u) → ∀ (H : Heap) (locs : List Loc) (ls : Array Slot), Wd D (va_A (w_Ed h cA gA gK row (yl:Int) ((yl + d : Nat):Int) P S L K cl cr rd an ed sz lk kd) hs) s.heap (w_Ed h cA gA gK row (yl:Int) ((yl + d : Nat):Int) P S L K cl cr rd an ed (s0:Int) (l0:Int) k0) H locs → lv_has ls 3 [(2, .int (iI st)), (0, .ref (h 0)), (1, .int (iI (ap:Int)))] → W p l e (rM 2 41) s m ([.ref (h 0), .int (iI (ap:Int))] : List Value).toArray below meth c H locs 0 0 (MQ below (zQv (fun u : Nat × Nat × Int => u = sc a kt t n ap) (fun u => (w_Ed h cA gA gK row (yl:Int) ((yl + d : Nat):Int) P S L K cl cr rd an ed (u.2.1 : Int) (u.1 : Int) u.2.2)) D (w_Ed h cA gA gK row (yl:Int) ((yl + d : Nat):Int) P S L K cl cr rd an ed sz lk kd) hs) ([.ref (h 0), .int (iI (ap:Int))] : List Value).toArray s 0 0 (va_A (w_Ed h cA gA gK row (yl:Int) ((yl + d : Nat):Int) P S L K cl cr rd an ed sz lk kd) hs)) (F0 m 17 ls []) := by
    intro f
    induction f with
    | zero =>
      intro u st l0 s0 k0 hf hsl h1 h2 H locs ls hw hl
      exfalso; omega
    | succ f ih =>
      intro u st l0 s0 k0 hf hsl h1 h2 H locs ls hw hl
      refine lv_iload_n X.1 X.2.1 d_Ed_scan_17 rfl (lv_at hl 0 rfl) ?_
      refine z_iconst X d_Ed_scan_18 ?_
      refine z_icmp_eq (tgt := 96) X d_Ed_scan_19 (by decide) (by omega) (by omega) (fun c_19 => ?_) (fun c_19 => ?_)
      · subst c_19
        rw [sl_end] at hsl
        exact z_vret X hr hlk (l0, s0, k0) hsl hw d_Ed_scan_96
      · obtain ⟨sn, rfl⟩ : ∃ sn : Nat, st = (sn:Int) := ⟨st.toNat, by omega⟩
        obtain ⟨v, rfl⟩ : ∃ v : Nat, u = v + 1 := ⟨u - 1, by omega⟩
        refine lv_aload_n X.1 X.2.1 d_Ed_scan_22 rfl (lv_at hl 1 rfl) ?_
        refine z_get X hw k_Ed 0 rfl 0 (by decide) rfl m_fl_Ed_10 rfl d_Ed_scan_23 ?_
        refine lv_iload_n X.1 X.2.1 d_Ed_scan_26 rfl (lv_at hl 0 rfl) ?_
        refine lv_aload_n X.1 X.2.1 d_Ed_scan_27 rfl (lv_at hl 1 rfl) ?_
        refine z_get X hw k_Ed 0 rfl 1 (by decide) rfl m_fl_Ed_19 rfl d_Ed_scan_28 ?_
        refine lv_iload_n X.1 X.2.1 d_Ed_scan_31 rfl (lv_at hl 2 rfl) ?_
        refine lv_aload_n X.1 X.2.1 d_Ed_scan_32 rfl (lv_at hl 1 rfl) ?_
        refine z_get X hw k_Ed 0 rfl 7 (by decide) rfl m_fl_Ed_48 rfl d_Ed_scan_33 ?_
        refine z_iadd (r := ((ap + l0 : Nat):Int)) X d_Ed_scan_36 (by omega) ?_
        refine z_callR (rest := [.int (iI (sn:Int)), .ref (h 1)]) X hw k_Sy v_Ed_54 [.int (iI ((ap + l0 : Nat):Int))] (c_Sy_at l D cA h _ row yl (yl + d) ((ap + l0 : Nat):Int) (by omega) (by omega) (by omega)) 4 rfl [4, 5] rfl rfl rfl rfl hl.1 rfl (Nat.le_of_ble_eq_true rfl) ⟨rfl, rfl, Nat.le_of_ble_eq_true rfl, Nat.le_of_ble_eq_true rfl⟩ ⟨Nat.le_of_ble_eq_true rfl, Nat.le_of_ble_eq_true rfl⟩ d_Ed_scan_37 (fun z_37 hz_37 => ?_)
        have e_37 : z_37 = sy t n ((ap + l0 : Nat):Int) := hz_37.trans (sy_eq htx (by omega) _)
        have q_37 := sy_rg hRg ((ap + l0 : Nat):Int)
        rw [← e_37] at q_37
        refine z_callR (rest := []) X hw k_Tb v_Ed_58 [.int (iI (sn:Int)), .int (iI z_37)] (c_Tb_next l D cA h _ gA sn z_37 (by omega) (by omega)) 1 rfl [1, 2] rfl rfl rfl rfl hl.1 rfl (Nat.le_of_ble_eq_true rfl) ⟨rfl, rfl, Nat.le_of_ble_eq_true rfl, Nat.le_of_ble_eq_true rfl⟩ ⟨Nat.le_of_ble_eq_true rfl, Nat.le_of_ble_eq_true rfl⟩ d_Ed_scan_40 (fun z_40 hz_40 => ?_)
        have e_40 : z_40 = nx a sn (sy t n ((ap + l0 : Nat):Int)) := by rw [hz_40, nx_eq hgA (by omega) (by omega), e_37]
        have q_40 := nx_rg hRg (st := sn) (by omega) ((ap + l0 : Nat):Int)
        rw [← e_40] at q_40
        refine z_istore_n (lv' := [(2, .int (iI z_40)), (0, .ref (h 0)), (1, .int (iI (ap:Int)))]) X d_Ed_scan_43 rfl hl (by decide) rfl (fun ls hl => ?_)
        refine lv_aload_n X.1 X.2.1 d_Ed_scan_44 rfl (lv_at hl 1 rfl) ?_
        refine lv_dup X.1 X.2.1 d_Ed_scan_45 rfl ?_
        refine z_get X hw k_Ed 0 rfl 7 (by decide) rfl m_fl_Ed_48 rfl d_Ed_scan_46 ?_
        refine z_iconst X d_Ed_scan_49 ?_
        refine z_iadd (r := ((l0 + 1 : Nat):Int)) X d_Ed_scan_50 (by omega) ?_
        refine z_put (ws' := (w_Ed h cA gA gK row (yl:Int) ((yl + d : Nat):Int) P S L K cl cr rd an ed (s0:Int) ((l0 + 1 : Nat):Int) k0)) X hw k_Ed 0 rfl 7 (by decide) rfl rfl (Nat.le_of_ble_eq_true rfl) m_fl_Ed_48 rfl d_Ed_scan_51 rfl (fun H locs hw => ?_)
        refine lv_iload_n X.1 X.2.1 d_Ed_scan_54 rfl (lv_at hl 0 rfl) ?_
        refine z_iconst X d_Ed_scan_55 ?_
        refine z_icmp_eq (tgt := 17) X d_Ed_scan_56 (by decide) (by omega) (by omega) (fun c_56 => ?_) (fun c_56 => ?_)
        · exact ih v z_40 (l0 + 1) s0 k0 (by omega) (by rw [← hsl]; exact (sl_no e_40 (by omega)).symm) (by omega) (by omega) H locs ls hw (lv_sub hl [0, 1, 2] rfl)
        · have q_69 := hRg.2.1 z_40.toNat (by omega)
          refine lv_aload_n X.1 X.2.1 d_Ed_scan_59 rfl (lv_at hl 1 rfl) ?_
          refine z_get X hw k_Ed 0 rfl 0 (by decide) rfl m_fl_Ed_10 rfl d_Ed_scan_60 ?_
          refine z_getN X hw k_Tb 1 rfl 1 (by decide) rfl (f_Ed_42 X.2.2.2.2.2.2) rfl d_Ed_scan_63 ?_
          refine lv_iload_n X.1 X.2.1 d_Ed_scan_66 rfl (lv_at hl 0 rfl) ?_
          refine z_bald X hw 3 rfl z_40.toNat (by omega) (by omega) (by decide) d_Ed_scan_67 ?_
          refine z_as (z := (kt z_40.toNat)) (hgK _ (by omega)) ?_
          refine z_iconst X d_Ed_scan_68 ?_
          refine z_icmp_eq (tgt := 17) X d_Ed_scan_69 (by decide) (by omega) (by omega) (fun c_69 => ?_) (fun c_69 => ?_)
          · exact ih v z_40 (l0 + 1) s0 k0 (by omega) (by rw [← hsl]; exact (sl_no e_40 (by omega)).symm) (by omega) (by omega) H locs ls hw (lv_sub hl [0, 1, 2] rfl)
          · refine lv_aload_n X.1 X.2.1 d_Ed_scan_72 rfl (lv_at hl 1 rfl) ?_
            refine lv_aload_n X.1 X.2.1 d_Ed_scan_73 rfl (lv_at hl 1 rfl) ?_
            refine z_get X hw k_Ed 0 rfl 7 (by decide) rfl m_fl_Ed_48 rfl d_Ed_scan_74 ?_
            refine z_put (ws' := (w_Ed h cA gA gK row (yl:Int) ((yl + d : Nat):Int) P S L K cl cr rd an ed ((l0 + 1 : Nat):Int) ((l0 + 1 : Nat):Int) k0)) X hw k_Ed 0 rfl 6 (by decide) rfl rfl (Nat.le_of_ble_eq_true rfl) m_fl_Ed_45 rfl d_Ed_scan_77 rfl (fun H locs hw => ?_)
            refine lv_aload_n X.1 X.2.1 d_Ed_scan_80 rfl (lv_at hl 1 rfl) ?_
            refine lv_aload_n X.1 X.2.1 d_Ed_scan_81 rfl (lv_at hl 1 rfl) ?_
            refine z_get X hw k_Ed 0 rfl 0 (by decide) rfl m_fl_Ed_10 rfl d_Ed_scan_82 ?_
            refine z_getN X hw k_Tb 1 rfl 1 (by decide) rfl (f_Ed_42 X.2.2.2.2.2.2) rfl d_Ed_scan_85 ?_
            refine lv_iload_n X.1 X.2.1 d_Ed_scan_88 rfl (lv_at hl 0 rfl) ?_
            refine z_bald X hw 3 rfl z_40.toNat (by omega) (by omega) (by decide) d_Ed_scan_89 ?_
            refine z_as (z := (kt z_40.toNat)) (hgK _ (by omega)) ?_
            refine z_put (ws' := (w_Ed h cA gA gK row (yl:Int) ((yl + d : Nat):Int) P S L K cl cr rd an ed ((l0 + 1 : Nat):Int) ((l0 + 1 : Nat):Int) (kt z_40.toNat))) X hw k_Ed 0 rfl 8 (by decide) rfl rfl (Nat.le_of_ble_eq_true rfl) m_fl_Ed_51 rfl d_Ed_scan_90 rfl (fun H locs hw => ?_)
            refine z_goto (tgt := 17) X d_Ed_scan_93 (by decide) ?_
            exact ih v z_40 (l0 + 1) (l0 + 1) (kt z_40.toNat) (by omega) (by rw [← hsl]; exact (sl_yes e_40 (by omega) (by omega)).symm) (by omega) (by omega) H locs ls hw (lv_sub hl [0, 1, 2] rfl)
  refine z_iconst X d_Ed_scan_0 ?_
  refine z_istore_n (lv' := [(2, .int (iI 0)), (0, .ref (h 0)), (1, .int (iI (ap:Int)))]) X d_Ed_scan_1 rfl hl (by decide) rfl (fun ls hl => ?_)
  refine lv_aload_n X.1 X.2.1 d_Ed_scan_2 rfl (lv_at hl 1 rfl) ?_
  refine z_iconst X d_Ed_scan_3 ?_
  refine z_put (ws' := (w_Ed h cA gA gK row (yl:Int) ((yl + d : Nat):Int) P S L K cl cr rd an ed 0 lk kd)) X hw k_Ed 0 rfl 6 (by decide) rfl rfl (Nat.le_of_ble_eq_true rfl) m_fl_Ed_45 rfl d_Ed_scan_4 rfl (fun H locs hw => ?_)
  refine lv_aload_n X.1 X.2.1 d_Ed_scan_7 rfl (lv_at hl 1 rfl) ?_
  refine z_iconst X d_Ed_scan_8 ?_
  refine z_put (ws' := (w_Ed h cA gA gK row (yl:Int) ((yl + d : Nat):Int) P S L K cl cr rd an ed 0 0 kd)) X hw k_Ed 0 rfl 7 (by decide) rfl rfl (Nat.le_of_ble_eq_true rfl) m_fl_Ed_48 rfl d_Ed_scan_9 rfl (fun H locs hw => ?_)
  refine lv_aload_n X.1 X.2.1 d_Ed_scan_12 rfl (lv_at hl 1 rfl) ?_
  refine z_iconst X d_Ed_scan_13 ?_
  refine z_put (ws' := (w_Ed h cA gA gK row (yl:Int) ((yl + d : Nat):Int) P S L K cl cr rd an ed 0 0 (-1))) X hw k_Ed 0 rfl 8 (by decide) rfl rfl (Nat.le_of_ble_eq_true rfl) m_fl_Ed_51 rfl d_Ed_scan_14 rfl (fun H locs hw => ?_)
  exact lp 403 402 0 0 0 (-1) (by omega) rfl (by omega) (by omega) _ _ ls hw (lv_sub hl [0, 1, 2] rfl)
set_option maxHeartbeats 4000000 in
set_option maxRecDepth 100000 in
/-- whether they are symbols -/
theorem c_Ed_areSymbols (l : Launch) (D : va_G) (cA : Nat → ClassId)  (hs : Nat) (v0 : Int64) (k0 : Nat) (hk : k0 ≤ 16) : Met l y_Ed_areSymbols (cW y_Ed_areSymbols b_Ed_areSymbols 5 (some .boolean)) (rM 0 0) (zP [.long v0, .int (iI (k0:Int))] D cA [] hs) (Qro (fun z => z = 1 ∧ aS v0 k0 ∨ z = 0 ∧ ¬ aS v0 k0)) 0 0 (fun _ => False) := by
  refine z_ofW (lv := [(0, .long v0), (2, .int (iI (k0:Int)))]) (by decide) (Nat.le_of_ble_eq_true rfl) rfl ?_
  intro p e s m below meth c ls hr hlk hnm X hhs hw hl
  have X : Cx p s m ([.long v0, .int (iI (k0:Int))] : List Value).toArray c b_Ed_areSymbols 5 R_Ed D cA := X
  have lp : ∀ (f : Nat) (i : Nat) (b : Int), i ≤ k0 → k0 < f + i → (b = 1 ∧ (∀ j, j < i → nb v0 (4 * (j : Int)) < 10) ∨ b = 0 ∧ ∃ j, j < i ∧ ¬ nb v0 (4 * (j : Int)) < 10) → ∀ (ls : Array Slot), lv_has ls 5 [(4, .int (iI (i:Int))), (3, .int (iI b)), (0, .long v0), (2, .int (iI (k0:Int)))] → W p l e (rM 0 0) s m ([.long v0, .int (iI (k0:Int))] : List Value).toArray below meth c s.heap [] 0 0 (MQ below (Qro (fun z => z = 1 ∧ aS v0 k0 ∨ z = 0 ∧ ¬ aS v0 k0)) ([.long v0, .int (iI (k0:Int))] : List Value).toArray s 0 0 (fun _ => False)) (F0 m 5 ls []) := by
    intro f
    induction f with
    | zero =>
      intro i b hi hf hb ls hl
      exfalso; omega
    | succ f ih =>
      intro i b hi hf hb ls hl
      refine lv_iload X.1 X.2.1 d_Ed_areSymbols_5 (lv_at hl 0 rfl) ?_
      refine lv_iload_n X.1 X.2.1 d_Ed_areSymbols_7 rfl (lv_at hl 3 rfl) ?_
      refine z_icmp_ge (tgt := 44) X d_Ed_areSymbols_8 (by decide) (by omega) (by omega) (fun c_8 => ?_) (fun c_8 => ?_)
      · refine lv_iload_n X.1 X.2.1 d_Ed_areSymbols_44 rfl (lv_at hl 1 rfl) ?_
        rcases hb with ⟨rfl, hb⟩ | ⟨rfl, hb⟩
        · exact z_iretR X hr hlk (by decide) (Or.inl ⟨rfl, fun j hj => hb j (by omega)⟩) d_Ed_areSymbols_45
        · exact z_iretR X hr hlk (by decide) (Or.inr ⟨rfl, fun h => by obtain ⟨j, h1, h2⟩ := hb; exact h2 (h j (by omega))⟩) d_Ed_areSymbols_45
      · refine lv_iload_n X.1 X.2.1 d_Ed_areSymbols_11 rfl (lv_at hl 1 rfl) ?_
        refine z_if_eq (tgt := 36) X d_Ed_areSymbols_12 (by decide) (by rcases hb with ⟨hb, _⟩ | ⟨hb, _⟩ <;> omega) (fun c_12 => ?_) (fun c_12 => ?_)
        · refine z_iconst X d_Ed_areSymbols_36 ?_
          refine z_istore_n (lv' := [(3, .int (iI 0)), (4, .int (iI (i:Int))), (0, .long v0), (2, .int (iI (k0:Int)))]) X d_Ed_areSymbols_37 rfl hl (by decide) rfl (fun ls hl => ?_)
          refine z_iinc (lv' := [(4, .int (iI ((i + 1 : Nat):Int))), (3, .int (iI 0)), (0, .long v0), (2, .int (iI (k0:Int)))]) (r := ((i + 1 : Nat):Int)) (k := 1) X d_Ed_areSymbols_38 hl rfl (by omega) (by decide) rfl (fun ls hl => ?_)
          refine z_goto (tgt := 5) X d_Ed_areSymbols_41 (by decide) ?_
          exact ih (i + 1) 0 (by omega) (by omega) (Or.inr ⟨rfl, by
            rcases hb with ⟨_, hb⟩ | ⟨_, j, h1, h2⟩
            · first | exact ⟨i, by omega, by omega⟩ | (exfalso; omega)
            · exact ⟨j, by omega, h2⟩⟩) ls (lv_sub hl [0, 1, 2, 3] rfl)
        · refine lv_lload_n X.1 X.2.1 d_Ed_areSymbols_15 rfl (lv_at hl 2 rfl) ?_
          refine z_iconst X d_Ed_areSymbols_16 ?_
          refine lv_iload X.1 X.2.1 d_Ed_areSymbols_17 (lv_at hl 0 rfl) ?_
          refine z_imul (r := (4 * (i:Int))) X d_Ed_areSymbols_19 rfl ?_
          refine lv_lshr X.1 X.2.1 d_Ed_areSymbols_20 rfl ?_
          refine lv_ldc2 X.1 X.2.1 X.2.2.2.1 (X.2.2.2.2.1 _ m_lc_Ed_62) d_Ed_areSymbols_21 ?_
          refine lv_land X.1 X.2.1 d_Ed_areSymbols_24 ?_
          refine lv_ldc2 X.1 X.2.1 X.2.2.2.1 (X.2.2.2.2.1 _ m_lc_Ed_64) d_Ed_areSymbols_25 ?_
          refine z_nibge (tgt := 36) X d_Ed_areSymbols_28 d_Ed_areSymbols_29 (by decide) (fun c_28 => ?_) (fun c_28 => ?_)
          · refine z_iconst X d_Ed_areSymbols_36 ?_
            refine z_istore_n (lv' := [(3, .int (iI 0)), (4, .int (iI (i:Int))), (0, .long v0), (2, .int (iI (k0:Int)))]) X d_Ed_areSymbols_37 rfl hl (by decide) rfl (fun ls hl => ?_)
            refine z_iinc (lv' := [(4, .int (iI ((i + 1 : Nat):Int))), (3, .int (iI 0)), (0, .long v0), (2, .int (iI (k0:Int)))]) (r := ((i + 1 : Nat):Int)) (k := 1) X d_Ed_areSymbols_38 hl rfl (by omega) (by decide) rfl (fun ls hl => ?_)
            refine z_goto (tgt := 5) X d_Ed_areSymbols_41 (by decide) ?_
            exact ih (i + 1) 0 (by omega) (by omega) (Or.inr ⟨rfl, by
              rcases hb with ⟨_, hb⟩ | ⟨_, j, h1, h2⟩
              · first | exact ⟨i, by omega, by omega⟩ | (exfalso; omega)
              · exact ⟨j, by omega, h2⟩⟩) ls (lv_sub hl [0, 1, 2, 3] rfl)
          · refine z_iconst X d_Ed_areSymbols_32 ?_
            refine z_goto (tgt := 37) X d_Ed_areSymbols_33 (by decide) ?_
            refine z_istore_n (lv' := [(3, .int (iI 1)), (4, .int (iI (i:Int))), (0, .long v0), (2, .int (iI (k0:Int)))]) X d_Ed_areSymbols_37 rfl hl (by decide) rfl (fun ls hl => ?_)
            refine z_iinc (lv' := [(4, .int (iI ((i + 1 : Nat):Int))), (3, .int (iI 1)), (0, .long v0), (2, .int (iI (k0:Int)))]) (r := ((i + 1 : Nat):Int)) (k := 1) X d_Ed_areSymbols_38 hl rfl (by omega) (by decide) rfl (fun ls hl => ?_)
            refine z_goto (tgt := 5) X d_Ed_areSymbols_41 (by decide) ?_
            exact ih (i + 1) 1 (by omega) (by omega) (Or.inl ⟨rfl, fun j hj => by
              by_cases q : j = i
              · subst q; omega
              · rcases hb with ⟨_, hb⟩ | ⟨hb, _⟩
                · exact hb j (by omega)
                · omega⟩) ls (lv_sub hl [0, 1, 2, 3] rfl)
  refine z_iconst X d_Ed_areSymbols_0 ?_
  refine z_istore_n (lv' := [(3, .int (iI 1)), (0, .long v0), (2, .int (iI (k0:Int)))]) X d_Ed_areSymbols_1 rfl hl (by decide) rfl (fun ls hl => ?_)
  refine z_iconst X d_Ed_areSymbols_2 ?_
  refine z_istore (lv' := [(4, .int (iI 0)), (3, .int (iI 1)), (0, .long v0), (2, .int (iI (k0:Int)))]) X d_Ed_areSymbols_3 hl (by decide) rfl (fun ls hl => ?_)
  exact lp (k0 + 1) 0 1 (by omega) (by omega) (Or.inl ⟨rfl, fun j hj => absurd hj (Nat.not_lt_zero j)⟩) ls (lv_sub hl [0, 1, 2, 3] rfl)
end
section
/-- an answer of token(i, what) -/
def tkv (F : Nat → Nat × Nat × Int) (T : Nat) (z1 z2 : Int) : Int := if 0 ≤ z1 ∧ z1 < T then (if z2 = 0 then ((bg F z1.toNat : Nat) : Int) else if z2 = 1 then (((F (bg F z1.toNat)).2.1 : Nat) : Int) else if z2 = 2 then (F (bg F z1.toNat)).2.2 else if z2 = 3 then (((F (bg F z1.toNat)).1 : Nat) : Int) else -1) else -1
/-- an answer of count(what) -/
def cnv (F : Nat → Nat × Nat × Int) (n cn T : Nat) (rd an ed z1 : Int) : Int := if z1 = 0 then (T : Int) else if z1 = 1 then (n : Int) else if z1 = 2 then (if T = cn then -1 else ((bg F T : Nat) : Int)) else if z1 = 3 then (if T = cn then 0 else (((F (bg F T)).1 : Nat) : Int)) else if z1 = 4 then rd else if z1 = 5 then an else if z1 = 6 then ed else -1
/-- an answer of tokenAt -/
def tA (F : Nat → Nat × Nat × Int) (T : Nat) (z0 z : Int) : Prop := z = -1 ∧ (∀ k, k < T → ¬ ((bg F k : Nat) ≤ z0 ∧ z0 < (bg F k + (F (bg F k)).2.1 : Nat))) ∨ ∃ k : Nat, k < T ∧ z = k ∧ (bg F k : Nat) ≤ z0 ∧ z0 < (bg F k + (F (bg F k)).2.1 : Nat)
theorem tA_uniq {F : Nat → Nat × Nat × Int} {T : Nat} {z0 z z' : Int} (h : tA F T z0 z) (k : tA F T z0 z') : z = z' := by
  rcases h with ⟨h1, h2⟩ | ⟨i, h1, h2, h3, h4⟩ <;> rcases k with ⟨k1, k2⟩ | ⟨j, k1, k2, k3, k4⟩
  · rw [h1, k1]
  · exact absurd ⟨k3, k4⟩ (h2 j k1)
  · exact absurd ⟨h3, h4⟩ (k2 i h1)
  · have key : ∀ {i j : Nat}, z0 < (bg F i + (F (bg F i)).2.1 : Nat) → (bg F j : Nat) ≤ z0 → ¬ i < j := by
      intro i j q1 q2 q
      have := bg_mono (F := F) (j - (i + 1)) (i + 1)
      rw [show i + 1 + (j - (i + 1)) = j by omega] at this
      have e : bg F (i + 1) = bg F i + (F (bg F i)).2.1 := rfl
      omega
    have a1 := key h4 k3
    have a2 := key k4 h3
    omega
set_option maxHeartbeats 4000000 in
set_option maxRecDepth 100000 in
/-- whether the last one is a failure -/
theorem c_Ed_isFailed (l : Launch) (D : va_G) (cA : Nat → ClassId) (h : Nat → Nat) (hs : Nat) (a kt t : Nat → Int) (n cn : Nat) (gA gK row P S L K : Nat → Int) (yl d cl g : Nat) (rd an ed sz lk kd : Int) (hI : CI a kt t n cn gA gK row P S L K yl d cl g) : Met l y_Ed_isFailed (cW y_Ed_isFailed b_Ed_isFailed 1 (some .boolean)) (rM 1 21) (zP [.ref (h 0)] D cA (w_Ed h cA gA gK row (yl:Int) ((yl + d : Nat):Int) P S L K (cl:Int) ((cl + g : Nat):Int) rd an ed sz lk kd) hs) (Qro (fun z => z = 1 ∧ Fl (sc a kt t n) cn ∨ z = 0 ∧ ¬ Fl (sc a kt t n) cn)) 0 0 (fun _ => False) := by
  refine z_ofW (lv := [(0, .ref (h 0))]) (by decide) (Nat.le_of_ble_eq_true rfl) rfl ?_
  intro p e s m below meth c ls hr hlk hnm X hhs hw hl
  have X : Cx p s m ([.ref (h 0)] : List Value).toArray c b_Ed_isFailed 1 R_Ed D cA := X
  obtain ⟨hRg, hgA, hgK, hyd, hnd, htx, hcg, hcn, hC, hit⟩ := hI
  have hn4 := hRg.2.2.2
  have hcle := IsC_le hC
  refine lv_aload_n X.1 X.2.1 d_Ed_isFailed_0 rfl (lv_at hl 0 rfl) ?_
  refine z_get X hw k_Ed 0 rfl 2 (by decide) rfl m_fl_Ed_26 rfl d_Ed_isFailed_1 ?_
  refine z_callR (rest := []) X hw k_Sn v_Ed_70 [] (c_Sn_size l D cA h _ (cl:Int) ((cl + g : Nat):Int)) 6 rfl [6] rfl rfl rfl rfl hl.1 rfl (Nat.le_of_ble_eq_true rfl) ⟨rfl, rfl, Nat.le_of_ble_eq_true rfl, Nat.le_of_ble_eq_true rfl⟩ ⟨Nat.le_of_ble_eq_true rfl, Nat.le_of_ble_eq_true rfl⟩ d_Ed_isFailed_4 (fun z_4 hz_4 => ?_)
  subst hz_4
  refine z_as (z := (cn:Int)) (by omega) ?_
  refine z_if_le (tgt := 42) X d_Ed_isFailed_7 (by decide) (by omega) (fun c_7 => ?_) (fun c_7 => ?_)
  · refine z_iconst X d_Ed_isFailed_42 ?_
    exact z_iretR X hr hlk (by decide) (Or.inr ⟨rfl, fun w => by have := w.1; omega⟩) d_Ed_isFailed_43
  · have hso := so_lt (cl := cl) (d := g) (i := cn - 1) (n := 401) (by omega) (by omega)
    refine lv_aload_n X.1 X.2.1 d_Ed_isFailed_10 rfl (lv_at hl 0 rfl) ?_
    refine z_get X hw k_Ed 0 rfl 2 (by decide) rfl m_fl_Ed_26 rfl d_Ed_isFailed_11 ?_
    refine z_getN X hw k_Sn 6 rfl 3 (by decide) rfl (f_Ed_118 X.2.2.2.2.2.2) rfl d_Ed_isFailed_14 ?_
    refine lv_aload_n X.1 X.2.1 d_Ed_isFailed_17 rfl (lv_at hl 0 rfl) ?_
    refine z_get X hw k_Ed 0 rfl 2 (by decide) rfl m_fl_Ed_26 rfl d_Ed_isFailed_18 ?_
    refine lv_aload_n X.1 X.2.1 d_Ed_isFailed_21 rfl (lv_at hl 0 rfl) ?_
    refine z_get X hw k_Ed 0 rfl 2 (by decide) rfl m_fl_Ed_26 rfl d_Ed_isFailed_22 ?_
    refine z_callR (rest := [.ref (h 6), .ref (h 10)]) X hw k_Sn v_Ed_70 [] (c_Sn_size l D cA h _ (cl:Int) ((cl + g : Nat):Int)) 6 rfl [6] rfl rfl rfl rfl hl.1 rfl (Nat.le_of_ble_eq_true rfl) ⟨rfl, rfl, Nat.le_of_ble_eq_true rfl, Nat.le_of_ble_eq_true rfl⟩ ⟨Nat.le_of_ble_eq_true rfl, Nat.le_of_ble_eq_true rfl⟩ d_Ed_isFailed_25 (fun z_25 hz_25 => ?_)
    subst hz_25
    refine z_as (z := (cn:Int)) (by omega) ?_
    refine z_iconst X d_Ed_isFailed_28 ?_
    refine z_isub (r := ((cn - 1 : Nat):Int)) X d_Ed_isFailed_29 (by omega) ?_
    refine z_callRN (rest := [.ref (h 10)]) X hw k_Sn (f_Ed_78 X.2.2.2.2.2.2) m_im_Sn_slot m_se_Sn_slot m_in_Sn m_co_Sn_slot x_Sn_slot [.int (iI ((cn - 1 : Nat):Int))] (c_Sn_slot l D cA h _ cl (cl + g) (cn - 1) (by omega) (by omega) (by omega)) 6 rfl [6] rfl rfl rfl rfl hl.1 rfl (Nat.le_of_ble_eq_true rfl) ⟨rfl, rfl, Nat.le_of_ble_eq_true rfl, Nat.le_of_ble_eq_true rfl⟩ ⟨Nat.le_of_ble_eq_true rfl, Nat.le_of_ble_eq_true rfl⟩ d_Ed_isFailed_30 (fun z_30 hz_30 => ?_)
    subst hz_30
    refine z_bald X hw 10 rfl (so cl (cl + g) (cn - 1)) (by omega) (by omega) (by decide) d_Ed_isFailed_33 ?_
    refine z_as (z := ((sc a kt t n) (bg (sc a kt t n) (cn - 1))).2.2) (hit (cn - 1) (by omega)).2.2.2 ?_
    have hg := sc_GF hRg (bg (sc a kt t n) (cn - 1)) (hC.1 (cn - 1) (by omega))
    refine z_iconst X d_Ed_isFailed_34 ?_
    refine z_icmp_ne (tgt := 42) X d_Ed_isFailed_35 (by decide) (by omega) (by omega) (fun c_35 => ?_) (fun c_35 => ?_)
    · refine z_iconst X d_Ed_isFailed_42 ?_
      exact z_iretR X hr hlk (by decide) (Or.inr ⟨rfl, fun w => c_35 (hg.2.2.2.1.mpr w.2)⟩) d_Ed_isFailed_43
    · refine z_iconst X d_Ed_isFailed_38 ?_
      refine z_goto (tgt := 43) X d_Ed_isFailed_39 (by decide) ?_
      exact z_iretR X hr hlk (by decide) (Or.inl ⟨rfl, by omega, hg.2.2.2.1.mp c_35⟩) d_Ed_isFailed_43
set_option maxHeartbeats 4000000 in
set_option maxRecDepth 100000 in
/-- how many tokens -/
theorem c_Ed_tokens (l : Launch) (D : va_G) (cA : Nat → ClassId) (h : Nat → Nat) (hs : Nat) (a kt t : Nat → Int) (n cn : Nat) (gA gK row P S L K : Nat → Int) (yl d cl g : Nat) (rd an ed sz lk kd : Int) (hI : CI a kt t n cn gA gK row P S L K yl d cl g) (T : Nat) (hT : TK (sc a kt t n) cn T) : Met l y_Ed_tokens (cW y_Ed_tokens b_Ed_tokens 1 (some .int)) (rM 2 41) (zP [.ref (h 0)] D cA (w_Ed h cA gA gK row (yl:Int) ((yl + d : Nat):Int) P S L K (cl:Int) ((cl + g : Nat):Int) rd an ed sz lk kd) hs) (Qro (fun z => z = (T:Int))) 0 0 (fun _ => False) := by
  refine z_ofW (lv := [(0, .ref (h 0))]) (by decide) (Nat.le_of_ble_eq_true rfl) rfl ?_
  intro p e s m below meth c ls hr hlk hnm X hhs hw hl
  have X : Cx p s m ([.ref (h 0)] : List Value).toArray c b_Ed_tokens 1 R_Ed D cA := X
  have hI0 := hI
  obtain ⟨hRg, hgA, hgK, hyd, hnd, htx, hcg, hcn, hC, hit⟩ := hI
  have hn4 := hRg.2.2.2
  have hcle := IsC_le hC
  refine lv_aload_n X.1 X.2.1 d_Ed_tokens_0 rfl (lv_at hl 0 rfl) ?_
  refine z_get X hw k_Ed 0 rfl 2 (by decide) rfl m_fl_Ed_26 rfl d_Ed_tokens_1 ?_
  refine z_callR (rest := []) X hw k_Sn v_Ed_70 [] (c_Sn_size l D cA h _ (cl:Int) ((cl + g : Nat):Int)) 6 rfl [6] rfl rfl rfl rfl hl.1 rfl (Nat.le_of_ble_eq_true rfl) ⟨rfl, rfl, Nat.le_of_ble_eq_true rfl, Nat.le_of_ble_eq_true rfl⟩ ⟨Nat.le_of_ble_eq_true rfl, Nat.le_of_ble_eq_true rfl⟩ d_Ed_tokens_4 (fun z_4 hz_4 => ?_)
  subst hz_4
  refine z_as (z := (cn:Int)) (by omega) ?_
  refine lv_aload_n X.1 X.2.1 d_Ed_tokens_7 rfl (lv_at hl 0 rfl) ?_
  refine z_callR (rest := [.int (iI (cn:Int))]) X hw k_Ed v_Ed_119 [] (c_Ed_isFailed l D cA h _ a kt t n cn gA gK row P S L K yl d cl g rd an ed sz lk kd hI0) 0 rfl [0, 1, 2, 3, 4, 5, 6, 7, 8, 9, 10] rfl rfl rfl rfl hl.1 rfl (Nat.le_of_ble_eq_true rfl) ⟨rfl, rfl, Nat.le_of_ble_eq_true rfl, Nat.le_of_ble_eq_true rfl⟩ ⟨Nat.le_of_ble_eq_true rfl, Nat.le_of_ble_eq_true rfl⟩ d_Ed_tokens_8 (fun z_8 hz_8 => ?_)
  refine z_if_eq (tgt := 18) X d_Ed_tokens_11 (by decide) (by rcases hz_8 with ⟨q, _⟩ | ⟨q, _⟩ <;> omega) (fun c_11 => ?_) (fun c_11 => ?_)
  · refine z_iconst X d_Ed_tokens_18 ?_
    refine z_isub (r := (T:Int)) X d_Ed_tokens_19 (by rcases hz_8 with ⟨q1, q2⟩ | ⟨q1, q2⟩ <;> rcases hT with ⟨q3, q4⟩ | ⟨q3, q4⟩ <;> first | omega | exact absurd q2 q3 | exact absurd q3 q2) ?_
    exact z_iretR X hr hlk rfl rfl d_Ed_tokens_20
  · refine z_iconst X d_Ed_tokens_14 ?_
    refine z_goto (tgt := 19) X d_Ed_tokens_15 (by decide) ?_
    refine z_isub (r := (T:Int)) X d_Ed_tokens_19 (by rcases hz_8 with ⟨q1, q2⟩ | ⟨q1, q2⟩ <;> rcases hT with ⟨q3, q4⟩ | ⟨q3, q4⟩ <;> first | omega | exact absurd q2 q3 | exact absurd q3 q2) ?_
    exact z_iretR X hr hlk rfl rfl d_Ed_tokens_20
set_option maxHeartbeats 4000000 in
set_option maxRecDepth 100000 in
/-- a token's place, size, kind, look -/
theorem c_Ed_token (l : Launch) (D : va_G) (cA : Nat → ClassId) (h : Nat → Nat) (hs : Nat) (a kt t : Nat → Int) (n cn : Nat) (gA gK row P S L K : Nat → Int) (yl d cl g : Nat) (rd an ed sz lk kd : Int) (hI : CI a kt t n cn gA gK row P S L K yl d cl g) (T : Nat) (hT : TK (sc a kt t n) cn T) (z1 z2 : Int) (hz1 : -2147483648 ≤ z1 ∧ z1 < 2147483648) (hz2 : -2147483648 ≤ z2 ∧ z2 < 2147483648) : Met l y_Ed_token (cW y_Ed_token b_Ed_token 4 (some .int)) (rM 3 61) (zP [.ref (h 0), .int (iI z1), .int (iI z2)] D cA (w_Ed h cA gA gK row (yl:Int) ((yl + d : Nat):Int) P S L K (cl:Int) ((cl + g : Nat):Int) rd an ed sz lk kd) hs) (Qro (fun z => z = tkv (sc a kt t n) T z1 z2)) 0 0 (fun _ => False) := by
  refine z_ofW (lv := [(0, .ref (h 0)), (1, .int (iI z1)), (2, .int (iI z2))]) (by decide) (Nat.le_of_ble_eq_true rfl) rfl ?_
  intro p e s m below meth c ls hr hlk hnm X hhs hw hl
  have X : Cx p s m ([.ref (h 0), .int (iI z1), .int (iI z2)] : List Value).toArray c b_Ed_token 4 R_Ed D cA := X
  have hI0 := hI
  obtain ⟨hRg, hgA, hgK, hyd, hnd, htx, hcg, hcn, hC, hit⟩ := hI
  have hn4 := hRg.2.2.2
  have hcle := IsC_le hC
  have hTc : T ≤ cn := by rcases hT with ⟨_, q⟩ | ⟨_, q⟩ <;> omega
  refine lv_iload_n X.1 X.2.1 d_Ed_token_0 rfl (lv_at hl 1 rfl) ?_
  refine z_if_lt (tgt := 12) X d_Ed_token_1 (by decide) (by omega) (fun c_1 => ?_) (fun c_1 => ?_)
  · refine z_iconst X d_Ed_token_12 ?_
    exact z_iretR X hr hlk rfl (by unfold tkv; rw [if_neg (by omega)]) d_Ed_token_13
  · refine lv_iload_n X.1 X.2.1 d_Ed_token_4 rfl (lv_at hl 1 rfl) ?_
    refine lv_aload_n X.1 X.2.1 d_Ed_token_5 rfl (lv_at hl 0 rfl) ?_
    refine z_callR (rest := [.int (iI z1)]) X hw k_Ed v_Ed_123 [] (c_Ed_tokens l D cA h _ a kt t n cn gA gK row P S L K yl d cl g rd an ed sz lk kd hI0 T hT) 0 rfl [0, 1, 2, 3, 4, 5, 6, 7, 8, 9, 10] rfl rfl rfl rfl hl.1 rfl (Nat.le_of_ble_eq_true rfl) ⟨rfl, rfl, Nat.le_of_ble_eq_true rfl, Nat.le_of_ble_eq_true rfl⟩ ⟨Nat.le_of_ble_eq_true rfl, Nat.le_of_ble_eq_true rfl⟩ d_Ed_token_6 (fun z_6 hz_6 => ?_)
    subst hz_6
    refine z_icmp_lt (tgt := 14) X d_Ed_token_9 (by decide) (by omega) (by omega) (fun c_9 => ?_) (fun c_9 => ?_)
    · obtain ⟨i, rfl⟩ : ∃ i : Nat, z1 = (i:Int) := ⟨z1.toNat, by omega⟩
      have hso := so_lt (cl := cl) (d := g) (i := i) (n := 401) (by omega) (by omega)
      have hi := hit i (by omega)
      refine lv_aload_n X.1 X.2.1 d_Ed_token_14 rfl (lv_at hl 0 rfl) ?_
      refine z_get X hw k_Ed 0 rfl 2 (by decide) rfl m_fl_Ed_26 rfl d_Ed_token_15 ?_
      refine lv_iload_n X.1 X.2.1 d_Ed_token_18 rfl (lv_at hl 1 rfl) ?_
      refine z_callRN (rest := []) X hw k_Sn (f_Ed_78 X.2.2.2.2.2.2) m_im_Sn_slot m_se_Sn_slot m_in_Sn m_co_Sn_slot x_Sn_slot [.int (iI (i:Int))] (c_Sn_slot l D cA h _ cl (cl + g) i (by omega) (by omega) (by omega)) 6 rfl [6] rfl rfl rfl rfl hl.1 rfl (Nat.le_of_ble_eq_true rfl) ⟨rfl, rfl, Nat.le_of_ble_eq_true rfl, Nat.le_of_ble_eq_true rfl⟩ ⟨Nat.le_of_ble_eq_true rfl, Nat.le_of_ble_eq_true rfl⟩ d_Ed_token_19 (fun z_19 hz_19 => ?_)
      subst hz_19
      refine z_istore_n (lv' := [(3, .int (iI ((so cl (cl + g) i : Nat):Int))), (0, .ref (h 0)), (1, .int (iI (i:Int))), (2, .int (iI z2))]) X d_Ed_token_22 rfl hl (by decide) rfl (fun ls hl => ?_)
      refine lv_iload_n X.1 X.2.1 d_Ed_token_23 rfl (lv_at hl 3 rfl) ?_
      by_cases w_0 : z2 = 0
      · refine z_tin (tgt := 56) X d_Ed_token_24 (by omega) 0 w_0 (by decide) rfl (by decide) ?_
        refine lv_aload_n X.1 X.2.1 d_Ed_token_56 rfl (lv_at hl 1 rfl) ?_
        refine z_get X hw k_Ed 0 rfl 2 (by decide) rfl m_fl_Ed_26 rfl d_Ed_token_57 ?_
        refine lv_iload_n X.1 X.2.1 d_Ed_token_60 rfl (lv_at hl 2 rfl) ?_
        refine lv_aload_n X.1 X.2.1 d_Ed_token_61 rfl (lv_at hl 1 rfl) ?_
        refine z_get X hw k_Ed 0 rfl 1 (by decide) rfl m_fl_Ed_19 rfl d_Ed_token_62 ?_
        refine z_callR (rest := [.int (iI (i:Int)), .ref (h 6)]) X hw k_Sy v_Ed_34 [] (c_Sy_size l D cA h _ (yl:Int) ((yl + d : Nat):Int)) 4 rfl [4] rfl rfl rfl rfl hl.1 rfl (Nat.le_of_ble_eq_true rfl) ⟨rfl, rfl, Nat.le_of_ble_eq_true rfl, Nat.le_of_ble_eq_true rfl⟩ ⟨Nat.le_of_ble_eq_true rfl, Nat.le_of_ble_eq_true rfl⟩ d_Ed_token_65 (fun z_65 hz_65 => ?_)
        subst hz_65
        refine z_as (z := (n:Int)) (by omega) ?_
        refine z_callR (rest := []) X hw k_Sn v_Ed_71 [.int (iI (i:Int)), .int (iI (n:Int))] (c_Sn_place l D cA h _ P cl (cl + g) i (n:Int) (by omega) (by omega) (by omega) hso) 6 rfl [6, 7] rfl rfl rfl rfl hl.1 rfl (Nat.le_of_ble_eq_true rfl) ⟨rfl, rfl, Nat.le_of_ble_eq_true rfl, Nat.le_of_ble_eq_true rfl⟩ ⟨Nat.le_of_ble_eq_true rfl, Nat.le_of_ble_eq_true rfl⟩ d_Ed_token_68 (fun z_68 hz_68 => ?_)
        subst hz_68
        exact z_iretR X hr hlk rfl (by unfold tkv; rw [if_pos (by omega), if_pos w_0]; exact hi.1) d_Ed_token_71
      by_cases w_1 : z2 = 1
      · refine z_tin (tgt := 72) X d_Ed_token_24 (by omega) 1 w_1 (by decide) rfl (by decide) ?_
        refine lv_aload_n X.1 X.2.1 d_Ed_token_72 rfl (lv_at hl 1 rfl) ?_
        refine z_get X hw k_Ed 0 rfl 2 (by decide) rfl m_fl_Ed_26 rfl d_Ed_token_73 ?_
        refine z_getN X hw k_Sn 6 rfl 1 (by decide) rfl (f_Ed_126 X.2.2.2.2.2.2) rfl d_Ed_token_76 ?_
        refine lv_iload_n X.1 X.2.1 d_Ed_token_79 rfl (lv_at hl 0 rfl) ?_
        refine z_sald X hw 8 rfl (so cl (cl + g) i) (by omega) (by omega) (by decide) d_Ed_token_80 ?_
        exact z_iretR X hr hlk rfl (by unfold tkv; rw [if_pos (by omega), if_neg w_0, if_pos w_1]; exact hi.2.1) d_Ed_token_81
      by_cases w_2 : z2 = 2
      · refine z_tin (tgt := 82) X d_Ed_token_24 (by omega) 2 w_2 (by decide) rfl (by decide) ?_
        refine lv_aload_n X.1 X.2.1 d_Ed_token_82 rfl (lv_at hl 1 rfl) ?_
        refine z_get X hw k_Ed 0 rfl 2 (by decide) rfl m_fl_Ed_26 rfl d_Ed_token_83 ?_
        refine z_getN X hw k_Sn 6 rfl 3 (by decide) rfl (f_Ed_118 X.2.2.2.2.2.2) rfl d_Ed_token_86 ?_
        refine lv_iload_n X.1 X.2.1 d_Ed_token_89 rfl (lv_at hl 0 rfl) ?_
        refine z_bald X hw 10 rfl (so cl (cl + g) i) (by omega) (by omega) (by decide) d_Ed_token_90 ?_
        exact z_iretR X hr hlk rfl (by unfold tkv; rw [if_pos (by omega), if_neg w_0, if_neg w_1, if_pos w_2]; exact hi.2.2.2) d_Ed_token_91
      by_cases w_3 : z2 = 3
      · refine z_tin (tgt := 92) X d_Ed_token_24 (by omega) 3 w_3 (by decide) rfl (by decide) ?_
        refine lv_aload_n X.1 X.2.1 d_Ed_token_92 rfl (lv_at hl 1 rfl) ?_
        refine z_get X hw k_Ed 0 rfl 2 (by decide) rfl m_fl_Ed_26 rfl d_Ed_token_93 ?_
        refine z_getN X hw k_Sn 6 rfl 2 (by decide) rfl (f_Ed_74 X.2.2.2.2.2.2) rfl d_Ed_token_96 ?_
        refine lv_iload_n X.1 X.2.1 d_Ed_token_99 rfl (lv_at hl 0 rfl) ?_
        refine z_sald X hw 9 rfl (so cl (cl + g) i) (by omega) (by omega) (by decide) d_Ed_token_100 ?_
        exact z_iretR X hr hlk rfl (by unfold tkv; rw [if_pos (by omega), if_neg w_0, if_neg w_1, if_neg w_2, if_pos w_3]; exact hi.2.2.1) d_Ed_token_101
      refine z_tout (tgt := 102) X d_Ed_token_24 (by omega) (by omega) (by decide) ?_
      refine z_iconst X d_Ed_token_102 ?_
      exact z_iretR X hr hlk rfl (by unfold tkv; rw [if_pos (by omega), if_neg w_0, if_neg w_1, if_neg w_2, if_neg w_3]) d_Ed_token_103
    · refine z_iconst X d_Ed_token_12 ?_
      exact z_iretR X hr hlk rfl (by unfold tkv; rw [if_neg (by omega)]) d_Ed_token_13
set_option maxHeartbeats 4000000 in
set_option maxRecDepth 100000 in
/-- counts -/
theorem c_Ed_count (l : Launch) (D : va_G) (cA : Nat → ClassId) (h : Nat → Nat) (hs : Nat) (a kt t : Nat → Int) (n cn : Nat) (gA gK row P S L K : Nat → Int) (yl d cl g : Nat) (rd an ed sz lk kd : Int) (hI : CI a kt t n cn gA gK row P S L K yl d cl g) (T : Nat) (hT : TK (sc a kt t n) cn T) (z1 : Int) (hz1 : -2147483648 ≤ z1 ∧ z1 < 2147483648) : Met l y_Ed_count (cW y_Ed_count b_Ed_count 3 (some .int)) (rM 3 61) (zP [.ref (h 0), .int (iI z1)] D cA (w_Ed h cA gA gK row (yl:Int) ((yl + d : Nat):Int) P S L K (cl:Int) ((cl + g : Nat):Int) rd an ed sz lk kd) hs) (Qro (fun z => z = cnv (sc a kt t n) n cn T rd an ed z1)) 0 0 (fun _ => False) := by
  refine z_ofW (lv := [(0, .ref (h 0)), (1, .int (iI z1))]) (by decide) (Nat.le_of_ble_eq_true rfl) rfl ?_
  intro p e s m below meth c ls hr hlk hnm X hhs hw hl
  have X : Cx p s m ([.ref (h 0), .int (iI z1)] : List Value).toArray c b_Ed_count 3 R_Ed D cA := X
  have hI0 := hI
  obtain ⟨hRg, hgA, hgK, hyd, hnd, htx, hcg, hcn, hC, hit⟩ := hI
  have hn4 := hRg.2.2.2
  have hcle := IsC_le hC
  have hTc : T ≤ cn := by rcases hT with ⟨_, q⟩ | ⟨_, q⟩ <;> omega
  refine lv_aload_n X.1 X.2.1 d_Ed_count_0 rfl (lv_at hl 0 rfl) ?_
  refine z_get X hw k_Ed 0 rfl 2 (by decide) rfl m_fl_Ed_26 rfl d_Ed_count_1 ?_
  refine z_callR (rest := []) X hw k_Sn v_Ed_70 [] (c_Sn_size l D cA h _ (cl:Int) ((cl + g : Nat):Int)) 6 rfl [6] rfl rfl rfl rfl hl.1 rfl (Nat.le_of_ble_eq_true rfl) ⟨rfl, rfl, Nat.le_of_ble_eq_true rfl, Nat.le_of_ble_eq_true rfl⟩ ⟨Nat.le_of_ble_eq_true rfl, Nat.le_of_ble_eq_true rfl⟩ d_Ed_count_4 (fun z_4 hz_4 => ?_)
  subst hz_4
  refine z_as (z := (cn:Int)) (by omega) ?_
  refine z_iconst X d_Ed_count_7 ?_
  refine z_isub (r := ((cn:Int) - 1)) X d_Ed_count_8 rfl ?_
  refine z_istore_n (lv' := [(2, .int (iI ((cn:Int) - 1))), (0, .ref (h 0)), (1, .int (iI z1))]) X d_Ed_count_9 rfl hl (by decide) rfl (fun ls hl => ?_)
  refine lv_iload_n X.1 X.2.1 d_Ed_count_10 rfl (lv_at hl 2 rfl) ?_
  by_cases w_0 : z1 = 0
  · refine z_tin (tgt := 52) X d_Ed_count_11 (by omega) 0 w_0 (by decide) rfl (by decide) ?_
    refine lv_aload_n X.1 X.2.1 d_Ed_count_52 rfl (lv_at hl 1 rfl) ?_
    refine z_callR (rest := []) X hw k_Ed v_Ed_123 [] (c_Ed_tokens l D cA h _ a kt t n cn gA gK row P S L K yl d cl g rd an ed sz lk kd hI0 T hT) 0 rfl [0, 1, 2, 3, 4, 5, 6, 7, 8, 9, 10] rfl rfl rfl rfl hl.1 rfl (Nat.le_of_ble_eq_true rfl) ⟨rfl, rfl, Nat.le_of_ble_eq_true rfl, Nat.le_of_ble_eq_true rfl⟩ ⟨Nat.le_of_ble_eq_true rfl, Nat.le_of_ble_eq_true rfl⟩ d_Ed_count_53 (fun z_53 hz_53 => ?_)
    subst hz_53
    exact z_iretR X hr hlk rfl (by unfold cnv; rw [if_pos w_0]) d_Ed_count_56
  by_cases w_1 : z1 = 1
  · refine z_tin (tgt := 57) X d_Ed_count_11 (by omega) 1 w_1 (by decide) rfl (by decide) ?_
    refine lv_aload_n X.1 X.2.1 d_Ed_count_57 rfl (lv_at hl 1 rfl) ?_
    refine z_get X hw k_Ed 0 rfl 1 (by decide) rfl m_fl_Ed_19 rfl d_Ed_count_58 ?_
    refine z_callR (rest := []) X hw k_Sy v_Ed_34 [] (c_Sy_size l D cA h _ (yl:Int) ((yl + d : Nat):Int)) 4 rfl [4] rfl rfl rfl rfl hl.1 rfl (Nat.le_of_ble_eq_true rfl) ⟨rfl, rfl, Nat.le_of_ble_eq_true rfl, Nat.le_of_ble_eq_true rfl⟩ ⟨Nat.le_of_ble_eq_true rfl, Nat.le_of_ble_eq_true rfl⟩ d_Ed_count_61 (fun z_61 hz_61 => ?_)
    subst hz_61
    refine z_as (z := (n:Int)) (by omega) ?_
    exact z_iretR X hr hlk rfl (by unfold cnv; rw [if_neg w_0, if_pos w_1]) d_Ed_count_64
  by_cases w_2 : z1 = 2
  · refine z_tin (tgt := 65) X d_Ed_count_11 (by omega) 2 w_2 (by decide) rfl (by decide) ?_
    refine lv_aload_n X.1 X.2.1 d_Ed_count_65 rfl (lv_at hl 1 rfl) ?_
    refine z_callR (rest := []) X hw k_Ed v_Ed_119 [] (c_Ed_isFailed l D cA h _ a kt t n cn gA gK row P S L K yl d cl g rd an ed sz lk kd hI0) 0 rfl [0, 1, 2, 3, 4, 5, 6, 7, 8, 9, 10] rfl rfl rfl rfl hl.1 rfl (Nat.le_of_ble_eq_true rfl) ⟨rfl, rfl, Nat.le_of_ble_eq_true rfl, Nat.le_of_ble_eq_true rfl⟩ ⟨Nat.le_of_ble_eq_true rfl, Nat.le_of_ble_eq_true rfl⟩ d_Ed_count_66 (fun z_66 hz_66 => ?_)
    refine z_if_eq (tgt := 90) X d_Ed_count_69 (by decide) (by rcases hz_66 with ⟨q, _⟩ | ⟨q, _⟩ <;> omega) (fun c_69 => ?_) (fun c_69 => ?_)
    · refine z_iconst X d_Ed_count_90 ?_
      have hTn : T = cn := by
        rcases hT with ⟨q1, q2⟩ | ⟨q1, q2⟩
        · rcases hz_66 with ⟨q, _⟩ | ⟨_, q⟩
          · omega
          · exact absurd q1 q
        · exact q2
      exact z_iretR X hr hlk rfl (by unfold cnv; rw [if_neg w_0, if_neg w_1, if_pos w_2, if_pos hTn]) d_Ed_count_91
    · have hcp : T + 1 = cn ∧ T ≠ cn := by
        rcases hT with ⟨q1, q2⟩ | ⟨q1, q2⟩
        · omega
        · rcases hz_66 with ⟨_, q⟩ | ⟨q, _⟩
          · exact absurd q q1
          · omega
      have hl : lv_has ls 3 [(2, .int (iI (T:Int))), (0, .ref (h 0)), (1, .int (iI z1))] := by rw [show (T:Int) = (cn:Int) - 1 by omega]; exact hl
      have hso := so_lt (cl := cl) (d := g) (i := T) (n := 401) (by omega) (by omega)
      have hi := hit T (by omega)
      refine lv_aload_n X.1 X.2.1 d_Ed_count_72 rfl (lv_at hl 1 rfl) ?_
      refine z_get X hw k_Ed 0 rfl 2 (by decide) rfl m_fl_Ed_26 rfl d_Ed_count_73 ?_
      refine lv_iload_n X.1 X.2.1 d_Ed_count_76 rfl (lv_at hl 0 rfl) ?_
      refine lv_aload_n X.1 X.2.1 d_Ed_count_77 rfl (lv_at hl 1 rfl) ?_
      refine z_get X hw k_Ed 0 rfl 1 (by decide) rfl m_fl_Ed_19 rfl d_Ed_count_78 ?_
      refine z_callR (rest := [.int (iI (T:Int)), .ref (h 6)]) X hw k_Sy v_Ed_34 [] (c_Sy_size l D cA h _ (yl:Int) ((yl + d : Nat):Int)) 4 rfl [4] rfl rfl rfl rfl hl.1 rfl (Nat.le_of_ble_eq_true rfl) ⟨rfl, rfl, Nat.le_of_ble_eq_true rfl, Nat.le_of_ble_eq_true rfl⟩ ⟨Nat.le_of_ble_eq_true rfl, Nat.le_of_ble_eq_true rfl⟩ d_Ed_count_81 (fun z_81 hz_81 => ?_)
      subst hz_81
      refine z_as (z := (n:Int)) (by omega) ?_
      refine z_callR (rest := []) X hw k_Sn v_Ed_71 [.int (iI (T:Int)), .int (iI (n:Int))] (c_Sn_place l D cA h _ P cl (cl + g) T (n:Int) (by omega) (by omega) (by omega) hso) 6 rfl [6, 7] rfl rfl rfl rfl hl.1 rfl (Nat.le_of_ble_eq_true rfl) ⟨rfl, rfl, Nat.le_of_ble_eq_true rfl, Nat.le_of_ble_eq_true rfl⟩ ⟨Nat.le_of_ble_eq_true rfl, Nat.le_of_ble_eq_true rfl⟩ d_Ed_count_84 (fun z_84 hz_84 => ?_)
      subst hz_84
      refine z_goto (tgt := 91) X d_Ed_count_87 (by decide) ?_
      exact z_iretR X hr hlk rfl (by unfold cnv; rw [if_neg w_0, if_neg w_1, if_pos w_2, if_neg hcp.2]; exact hi.1) d_Ed_count_91
  by_cases w_3 : z1 = 3
  · refine z_tin (tgt := 92) X d_Ed_count_11 (by omega) 3 w_3 (by decide) rfl (by decide) ?_
    refine lv_aload_n X.1 X.2.1 d_Ed_count_92 rfl (lv_at hl 1 rfl) ?_
    refine z_callR (rest := []) X hw k_Ed v_Ed_119 [] (c_Ed_isFailed l D cA h _ a kt t n cn gA gK row P S L K yl d cl g rd an ed sz lk kd hI0) 0 rfl [0, 1, 2, 3, 4, 5, 6, 7, 8, 9, 10] rfl rfl rfl rfl hl.1 rfl (Nat.le_of_ble_eq_true rfl) ⟨rfl, rfl, Nat.le_of_ble_eq_true rfl, Nat.le_of_ble_eq_true rfl⟩ ⟨Nat.le_of_ble_eq_true rfl, Nat.le_of_ble_eq_true rfl⟩ d_Ed_count_93 (fun z_93 hz_93 => ?_)
    refine z_if_eq (tgt := 118) X d_Ed_count_96 (by decide) (by rcases hz_93 with ⟨q, _⟩ | ⟨q, _⟩ <;> omega) (fun c_96 => ?_) (fun c_96 => ?_)
    · refine z_iconst X d_Ed_count_118 ?_
      have hTn : T = cn := by
        rcases hT with ⟨q1, q2⟩ | ⟨q1, q2⟩
        · rcases hz_93 with ⟨q, _⟩ | ⟨_, q⟩
          · omega
          · exact absurd q1 q
        · exact q2
      exact z_iretR X hr hlk rfl (by unfold cnv; rw [if_neg w_0, if_neg w_1, if_neg w_2, if_pos w_3, if_pos hTn]) d_Ed_count_119
    · have hcp : T + 1 = cn ∧ T ≠ cn := by
        rcases hT with ⟨q1, q2⟩ | ⟨q1, q2⟩
        · omega
        · rcases hz_93 with ⟨_, q⟩ | ⟨q, _⟩
          · exact absurd q q1
          · omega
      have hl : lv_has ls 3 [(2, .int (iI (T:Int))), (0, .ref (h 0)), (1, .int (iI z1))] := by rw [show (T:Int) = (cn:Int) - 1 by omega]; exact hl
      have hso := so_lt (cl := cl) (d := g) (i := T) (n := 401) (by omega) (by omega)
      have hi := hit T (by omega)
      refine lv_aload_n X.1 X.2.1 d_Ed_count_99 rfl (lv_at hl 1 rfl) ?_
      refine z_get X hw k_Ed 0 rfl 2 (by decide) rfl m_fl_Ed_26 rfl d_Ed_count_100 ?_
      refine z_getN X hw k_Sn 6 rfl 2 (by decide) rfl (f_Ed_74 X.2.2.2.2.2.2) rfl d_Ed_count_103 ?_
      refine lv_aload_n X.1 X.2.1 d_Ed_count_106 rfl (lv_at hl 1 rfl) ?_
      refine z_get X hw k_Ed 0 rfl 2 (by decide) rfl m_fl_Ed_26 rfl d_Ed_count_107 ?_
      refine lv_iload_n X.1 X.2.1 d_Ed_count_110 rfl (lv_at hl 0 rfl) ?_
      refine z_callRN (rest := [.ref (h 9)]) X hw k_Sn (f_Ed_78 X.2.2.2.2.2.2) m_im_Sn_slot m_se_Sn_slot m_in_Sn m_co_Sn_slot x_Sn_slot [.int (iI (T:Int))] (c_Sn_slot l D cA h _ cl (cl + g) T (by omega) (by omega) (by omega)) 6 rfl [6] rfl rfl rfl rfl hl.1 rfl (Nat.le_of_ble_eq_true rfl) ⟨rfl, rfl, Nat.le_of_ble_eq_true rfl, Nat.le_of_ble_eq_true rfl⟩ ⟨Nat.le_of_ble_eq_true rfl, Nat.le_of_ble_eq_true rfl⟩ d_Ed_count_111 (fun z_111 hz_111 => ?_)
      subst hz_111
      refine z_sald X hw 9 rfl (so cl (cl + g) T) (by omega) (by omega) (by decide) d_Ed_count_114 ?_
      refine z_goto (tgt := 119) X d_Ed_count_115 (by decide) ?_
      exact z_iretR X hr hlk rfl (by unfold cnv; rw [if_neg w_0, if_neg w_1, if_neg w_2, if_pos w_3, if_neg hcp.2]; exact hi.2.2.1) d_Ed_count_119
  by_cases w_4 : z1 = 4
  · refine z_tin (tgt := 120) X d_Ed_count_11 (by omega) 4 w_4 (by decide) rfl (by decide) ?_
    refine lv_aload_n X.1 X.2.1 d_Ed_count_120 rfl (lv_at hl 1 rfl) ?_
    refine z_get X hw k_Ed 0 rfl 3 (by decide) rfl m_fl_Ed_94 rfl d_Ed_count_121 ?_
    exact z_iretR X hr hlk rfl (by unfold cnv; rw [if_neg w_0, if_neg w_1, if_neg w_2, if_neg w_3, if_pos w_4]) d_Ed_count_124
  by_cases w_5 : z1 = 5
  · refine z_tin (tgt := 125) X d_Ed_count_11 (by omega) 5 w_5 (by decide) rfl (by decide) ?_
    refine lv_aload_n X.1 X.2.1 d_Ed_count_125 rfl (lv_at hl 1 rfl) ?_
    refine z_get X hw k_Ed 0 rfl 4 (by decide) rfl m_fl_Ed_97 rfl d_Ed_count_126 ?_
    exact z_iretR X hr hlk rfl (by unfold cnv; rw [if_neg w_0, if_neg w_1, if_neg w_2, if_neg w_3, if_neg w_4, if_pos w_5]) d_Ed_count_129
  by_cases w_6 : z1 = 6
  · refine z_tin (tgt := 130) X d_Ed_count_11 (by omega) 6 w_6 (by decide) rfl (by decide) ?_
    refine lv_aload_n X.1 X.2.1 d_Ed_count_130 rfl (lv_at hl 1 rfl) ?_
    refine z_get X hw k_Ed 0 rfl 5 (by decide) rfl m_fl_Ed_104 rfl d_Ed_count_131 ?_
    exact z_iretR X hr hlk rfl (by unfold cnv; rw [if_neg w_0, if_neg w_1, if_neg w_2, if_neg w_3, if_neg w_4, if_neg w_5, if_pos w_6]) d_Ed_count_134
  refine z_tout (tgt := 135) X d_Ed_count_11 (by omega) (by omega) (by decide) ?_
  refine z_iconst X d_Ed_count_135 ?_
  exact z_iretR X hr hlk rfl (by unfold cnv; rw [if_neg w_0, if_neg w_1, if_neg w_2, if_neg w_3, if_neg w_4, if_neg w_5, if_neg w_6]) d_Ed_count_136
set_option maxHeartbeats 4000000 in
set_option maxRecDepth 100000 in
/-- a symbol -/
theorem c_Ed_symbol (l : Launch) (D : va_G) (cA : Nat → ClassId) (h : Nat → Nat) (hs : Nat) (a kt t : Nat → Int) (n cn : Nat) (gA gK row P S L K : Nat → Int) (yl d cl g : Nat) (rd an ed sz lk kd : Int) (hI : CI a kt t n cn gA gK row P S L K yl d cl g) (z1 : Int) (hz1 : -2147483648 ≤ z1 ∧ z1 < 2147483648) : Met l y_Ed_symbol (cW y_Ed_symbol b_Ed_symbol 2 (some .int)) (rM 2 41) (zP [.ref (h 0), .int (iI z1)] D cA (w_Ed h cA gA gK row (yl:Int) ((yl + d : Nat):Int) P S L K (cl:Int) ((cl + g : Nat):Int) rd an ed sz lk kd) hs) (Qro (fun z => z = sy t n z1)) 0 0 (fun _ => False) := by
  refine z_ofW (lv := [(0, .ref (h 0)), (1, .int (iI z1))]) (by decide) (Nat.le_of_ble_eq_true rfl) rfl ?_
  intro p e s m below meth c ls hr hlk hnm X hhs hw hl
  have X : Cx p s m ([.ref (h 0), .int (iI z1)] : List Value).toArray c b_Ed_symbol 2 R_Ed D cA := X
  obtain ⟨hRg, hgA, hgK, hyd, hnd, htx, hcg, hcn, hC, hit⟩ := hI
  have hn4 := hRg.2.2.2
  have hcle := IsC_le hC
  refine lv_aload_n X.1 X.2.1 d_Ed_symbol_0 rfl (lv_at hl 0 rfl) ?_
  refine z_get X hw k_Ed 0 rfl 1 (by decide) rfl m_fl_Ed_19 rfl d_Ed_symbol_1 ?_
  refine lv_iload_n X.1 X.2.1 d_Ed_symbol_4 rfl (lv_at hl 1 rfl) ?_
  refine z_callR (rest := []) X hw k_Sy v_Ed_54 [.int (iI z1)] (c_Sy_at l D cA h _ row yl (yl + d) z1 (by omega) (by omega) (by omega)) 4 rfl [4, 5] rfl rfl rfl rfl hl.1 rfl (Nat.le_of_ble_eq_true rfl) ⟨rfl, rfl, Nat.le_of_ble_eq_true rfl, Nat.le_of_ble_eq_true rfl⟩ ⟨Nat.le_of_ble_eq_true rfl, Nat.le_of_ble_eq_true rfl⟩ d_Ed_symbol_5 (fun z_5 hz_5 => ?_)
  exact z_iretR X hr hlk rfl (hz_5.trans (sy_eq htx (by omega) _)) d_Ed_symbol_8
set_option maxHeartbeats 4000000 in
set_option maxRecDepth 100000 in
/-- the token at a place -/
theorem c_Ed_tokenAt (l : Launch) (D : va_G) (cA : Nat → ClassId) (h : Nat → Nat) (hs : Nat) (a kt t : Nat → Int) (n cn : Nat) (gA gK row P S L K : Nat → Int) (yl d cl g : Nat) (rd an ed sz lk kd : Int) (hI : CI a kt t n cn gA gK row P S L K yl d cl g) (T : Nat) (hT : TK (sc a kt t n) cn T) (z1 : Int) (hz1 : -2147483648 ≤ z1 ∧ z1 < 2147483648) : Met l y_Ed_tokenAt (cW y_Ed_tokenAt b_Ed_tokenAt 5 (some .int)) (rM 3 61) (zP [.ref (h 0), .int (iI z1)] D cA (w_Ed h cA gA gK row (yl:Int) ((yl + d : Nat):Int) P S L K (cl:Int) ((cl + g : Nat):Int) rd an ed sz lk kd) hs) (Qro (fun z => tA (sc a kt t n) T z1 z)) 0 0 (fun _ => False) := by
  refine z_ofW (lv := [(0, .ref (h 0)), (1, .int (iI z1))]) (by decide) (Nat.le_of_ble_eq_true rfl) rfl ?_
  intro p e s m below meth c ls hr hlk hnm X hhs hw hl
  have X : Cx p s m ([.ref (h 0), .int (iI z1)] : List Value).toArray c b_Ed_tokenAt 5 R_Ed D cA := X
  have hI0 := hI
  obtain ⟨hRg, hgA, hgK, hyd, hnd, htx, hcg, hcn, hC, hit⟩ := hI
  have hn4 := hRg.2.2.2
  have hcle := IsC_le hC
  have hTc : T ≤ cn := by rcases hT with ⟨_, q⟩ | ⟨_, q⟩ <;> omega
  have hB : ∀ i, i < T → bg (sc a kt t n) i < n := fun i hi => hC.1 i (by omega)
  have lp : ∀ (f : Nat) (lo_ hi_ : Nat), hi_ < f + lo_ → lo_ ≤ hi_ → hi_ ≤ T → (∀ k, k < lo_ → ((bg (sc a kt t n) k : Nat):Int) ≤ z1) → (∀ k, hi_ ≤ k → k < T → z1 < ((bg (sc a kt t n) k : Nat):Int)) → ∀ (ls : Array Slot), lv_has ls 5 [(3, .int (iI (hi_:Int))), (2, .int (iI (lo_:Int))), (0, .ref (h 0)), (1, .int (iI z1))] → W p l e (rM 3 61) s m ([.ref (h 0), .int (iI z1)] : List Value).toArray below meth c s.heap [] 0 0 (MQ below (Qro (fun z => tA (sc a kt t n) T z1 z)) ([.ref (h 0), .int (iI z1)] : List Value).toArray s 0 0 (fun _ => False)) (F0 m 13 ls []) := by
    intro f
    induction f with
    | zero =>
      intro lo_ hi_ hf hlh hhT h1 h2 ls hl
      exfalso; omega
    | succ f ih =>
      intro lo_ hi_ hf hlh hhT h1 h2 ls hl
      refine lv_iload_n X.1 X.2.1 d_Ed_tokenAt_13 rfl (lv_at hl 1 rfl) ?_
      refine lv_iload_n X.1 X.2.1 d_Ed_tokenAt_14 rfl (lv_at hl 0 rfl) ?_
      refine z_icmp_ge (tgt := 59) X d_Ed_tokenAt_15 (by decide) (by omega) (by omega) (fun c_15 => ?_) (fun c_15 => ?_)
      · refine lv_iload_n X.1 X.2.1 d_Ed_tokenAt_59 rfl (lv_at hl 1 rfl) ?_
        refine z_iconst X d_Ed_tokenAt_60 ?_
        refine z_isub (r := ((lo_:Int) - 1)) X d_Ed_tokenAt_61 rfl ?_
        refine z_istore (lv' := [(4, .int (iI ((lo_:Int) - 1))), (3, .int (iI (hi_:Int))), (2, .int (iI (lo_:Int))), (0, .ref (h 0)), (1, .int (iI z1))]) X d_Ed_tokenAt_62 hl (by decide) rfl (fun ls hl => ?_)
        refine lv_iload X.1 X.2.1 d_Ed_tokenAt_64 (lv_at hl 0 rfl) ?_
        refine z_if_lt (tgt := 112) X d_Ed_tokenAt_66 (by decide) (by omega) (fun c_66 => ?_) (fun c_66 => ?_)
        · refine z_iconst X d_Ed_tokenAt_112 ?_
          exact z_iretR X hr hlk rfl (Or.inl ⟨rfl, fun k hk w => by
            have := h2 k (by omega) hk
            omega⟩) d_Ed_tokenAt_113
        · obtain ⟨i, hil⟩ : ∃ i : Nat, lo_ = i + 1 := ⟨lo_ - 1, by omega⟩
          have hl : lv_has ls 5 [(4, .int (iI (i:Int))), (3, .int (iI (hi_:Int))), (2, .int (iI (lo_:Int))), (0, .ref (h 0)), (1, .int (iI z1))] := by rw [show (i:Int) = (lo_:Int) - 1 by omega]; exact hl
          have hso := so_lt (cl := cl) (d := g) (i := i) (n := 401) (by omega) (by omega)
          have hi := hit i (by omega)
          have hb := hB i (by omega)
          have hgf := sc_GF hRg _ hb
          refine lv_iload_n X.1 X.2.1 d_Ed_tokenAt_69 rfl (lv_at hl 4 rfl) ?_
          refine lv_aload_n X.1 X.2.1 d_Ed_tokenAt_70 rfl (lv_at hl 3 rfl) ?_
          refine z_get X hw k_Ed 0 rfl 2 (by decide) rfl m_fl_Ed_26 rfl d_Ed_tokenAt_71 ?_
          refine lv_iload X.1 X.2.1 d_Ed_tokenAt_74 (lv_at hl 0 rfl) ?_
          refine lv_aload_n X.1 X.2.1 d_Ed_tokenAt_76 rfl (lv_at hl 3 rfl) ?_
          refine z_get X hw k_Ed 0 rfl 1 (by decide) rfl m_fl_Ed_19 rfl d_Ed_tokenAt_77 ?_
          refine z_callR (rest := [.int (iI (i:Int)), .ref (h 6), .int (iI z1)]) X hw k_Sy v_Ed_34 [] (c_Sy_size l D cA h _ (yl:Int) ((yl + d : Nat):Int)) 4 rfl [4] rfl rfl rfl rfl hl.1 rfl (Nat.le_of_ble_eq_true rfl) ⟨rfl, rfl, Nat.le_of_ble_eq_true rfl, Nat.le_of_ble_eq_true rfl⟩ ⟨Nat.le_of_ble_eq_true rfl, Nat.le_of_ble_eq_true rfl⟩ d_Ed_tokenAt_80 (fun z_80 hz_80 => ?_)
          subst hz_80
          refine z_as (z := (n:Int)) (by omega) ?_
          refine z_callR (rest := [.int (iI z1)]) X hw k_Sn v_Ed_71 [.int (iI (i:Int)), .int (iI (n:Int))] (c_Sn_place l D cA h _ P cl (cl + g) i (n:Int) (by omega) (by omega) (by omega) hso) 6 rfl [6, 7] rfl rfl rfl rfl hl.1 rfl (Nat.le_of_ble_eq_true rfl) ⟨rfl, rfl, Nat.le_of_ble_eq_true rfl, Nat.le_of_ble_eq_true rfl⟩ ⟨Nat.le_of_ble_eq_true rfl, Nat.le_of_ble_eq_true rfl⟩ d_Ed_tokenAt_83 (fun z_83 hz_83 => ?_)
          subst hz_83
          refine z_as (z := ((bg (sc a kt t n) i : Nat):Int)) hi.1 ?_
          refine lv_aload_n X.1 X.2.1 d_Ed_tokenAt_86 rfl (lv_at hl 3 rfl) ?_
          refine z_get X hw k_Ed 0 rfl 2 (by decide) rfl m_fl_Ed_26 rfl d_Ed_tokenAt_87 ?_
          refine z_getN X hw k_Sn 6 rfl 1 (by decide) rfl (f_Ed_126 X.2.2.2.2.2.2) rfl d_Ed_tokenAt_90 ?_
          refine lv_aload_n X.1 X.2.1 d_Ed_tokenAt_93 rfl (lv_at hl 3 rfl) ?_
          refine z_get X hw k_Ed 0 rfl 2 (by decide) rfl m_fl_Ed_26 rfl d_Ed_tokenAt_94 ?_
          refine lv_iload X.1 X.2.1 d_Ed_tokenAt_97 (lv_at hl 0 rfl) ?_
          refine z_callRN (rest := [.ref (h 8), .int (iI ((bg (sc a kt t n) i : Nat):Int)), .int (iI z1)]) X hw k_Sn (f_Ed_78 X.2.2.2.2.2.2) m_im_Sn_slot m_se_Sn_slot m_in_Sn m_co_Sn_slot x_Sn_slot [.int (iI (i:Int))] (c_Sn_slot l D cA h _ cl (cl + g) i (by omega) (by omega) (by omega)) 6 rfl [6] rfl rfl rfl rfl hl.1 rfl (Nat.le_of_ble_eq_true rfl) ⟨rfl, rfl, Nat.le_of_ble_eq_true rfl, Nat.le_of_ble_eq_true rfl⟩ ⟨Nat.le_of_ble_eq_true rfl, Nat.le_of_ble_eq_true rfl⟩ d_Ed_tokenAt_99 (fun z_99 hz_99 => ?_)
          subst hz_99
          refine z_sald X hw 8 rfl (so cl (cl + g) i) (by omega) (by omega) (by decide) d_Ed_tokenAt_102 ?_
          refine z_as (z := ((((sc a kt t n) (bg (sc a kt t n) i)).2.1 : Nat):Int)) hi.2.1 ?_
          refine z_iadd (r := (((bg (sc a kt t n) i : Nat):Int) + ((((sc a kt t n) (bg (sc a kt t n) i)).2.1 : Nat):Int))) X d_Ed_tokenAt_103 rfl ?_
          refine z_icmp_ge (tgt := 112) X d_Ed_tokenAt_104 (by decide) (by omega) (by omega) (fun c_104 => ?_) (fun c_104 => ?_)
          · refine z_iconst X d_Ed_tokenAt_112 ?_
            exact z_iretR X hr hlk rfl (Or.inl ⟨rfl, fun k hk w => by
              by_cases q : k ≤ i
              · have := bg_mono (F := (sc a kt t n)) (i - k) (k + 1)
                rw [show k + 1 + (i - k) = i + 1 by omega] at this
                have e1 : bg (sc a kt t n) (i + 1) = bg (sc a kt t n) i + ((sc a kt t n) (bg (sc a kt t n) i)).2.1 := rfl
                have e2 : bg (sc a kt t n) (k + 1) = bg (sc a kt t n) k + ((sc a kt t n) (bg (sc a kt t n) k)).2.1 := rfl
                omega
              · have := h2 k (by omega) hk
                omega⟩) d_Ed_tokenAt_113
          · refine lv_iload X.1 X.2.1 d_Ed_tokenAt_107 (lv_at hl 0 rfl) ?_
            refine z_goto (tgt := 113) X d_Ed_tokenAt_109 (by decide) ?_
            exact z_iretR X hr hlk rfl (Or.inr ⟨i, by omega, rfl, h1 i (by omega), by omega⟩) d_Ed_tokenAt_113
      · obtain ⟨mi, hmi⟩ : ∃ mi : Nat, mi = (lo_ + hi_) / 2 := ⟨_, rfl⟩
        have hso := so_lt (cl := cl) (d := g) (i := mi) (n := 401) (by omega) (by omega)
        have hi := (hit mi (by omega)).1
        have hb := hB mi (by omega)
        refine lv_iload_n X.1 X.2.1 d_Ed_tokenAt_18 rfl (lv_at hl 1 rfl) ?_
        refine lv_iload_n X.1 X.2.1 d_Ed_tokenAt_19 rfl (lv_at hl 0 rfl) ?_
        refine z_iadd (r := ((lo_:Int) + (hi_:Int))) X d_Ed_tokenAt_20 rfl ?_
        refine z_iconst X d_Ed_tokenAt_21 ?_
        refine z_idiv2 (r := ((mi : Nat):Int)) X d_Ed_tokenAt_22 (by omega) (by omega) ?_
        refine z_istore (lv' := [(4, .int (iI ((mi : Nat):Int))), (3, .int (iI (hi_:Int))), (2, .int (iI (lo_:Int))), (0, .ref (h 0)), (1, .int (iI z1))]) X d_Ed_tokenAt_23 hl (by decide) rfl (fun ls hl => ?_)
        refine lv_aload_n X.1 X.2.1 d_Ed_tokenAt_25 rfl (lv_at hl 3 rfl) ?_
        refine z_get X hw k_Ed 0 rfl 2 (by decide) rfl m_fl_Ed_26 rfl d_Ed_tokenAt_26 ?_
        refine lv_iload X.1 X.2.1 d_Ed_tokenAt_29 (lv_at hl 0 rfl) ?_
        refine lv_aload_n X.1 X.2.1 d_Ed_tokenAt_31 rfl (lv_at hl 3 rfl) ?_
        refine z_get X hw k_Ed 0 rfl 1 (by decide) rfl m_fl_Ed_19 rfl d_Ed_tokenAt_32 ?_
        refine z_callR (rest := [.int (iI ((mi : Nat):Int)), .ref (h 6)]) X hw k_Sy v_Ed_34 [] (c_Sy_size l D cA h _ (yl:Int) ((yl + d : Nat):Int)) 4 rfl [4] rfl rfl rfl rfl hl.1 rfl (Nat.le_of_ble_eq_true rfl) ⟨rfl, rfl, Nat.le_of_ble_eq_true rfl, Nat.le_of_ble_eq_true rfl⟩ ⟨Nat.le_of_ble_eq_true rfl, Nat.le_of_ble_eq_true rfl⟩ d_Ed_tokenAt_35 (fun z_35 hz_35 => ?_)
        subst hz_35
        refine z_as (z := (n:Int)) (by omega) ?_
        refine z_callR (rest := []) X hw k_Sn v_Ed_71 [.int (iI ((mi : Nat):Int)), .int (iI (n:Int))] (c_Sn_place l D cA h _ P cl (cl + g) (mi) (n:Int) (by omega) (by omega) (by omega) hso) 6 rfl [6, 7] rfl rfl rfl rfl hl.1 rfl (Nat.le_of_ble_eq_true rfl) ⟨rfl, rfl, Nat.le_of_ble_eq_true rfl, Nat.le_of_ble_eq_true rfl⟩ ⟨Nat.le_of_ble_eq_true rfl, Nat.le_of_ble_eq_true rfl⟩ d_Ed_tokenAt_38 (fun z_38 hz_38 => ?_)
        subst hz_38
        refine z_as (z := ((bg (sc a kt t n) mi : Nat):Int)) hi ?_
        refine lv_iload_n X.1 X.2.1 d_Ed_tokenAt_41 rfl (lv_at hl 4 rfl) ?_
        refine z_icmp_gt (tgt := 53) X d_Ed_tokenAt_42 (by decide) (by omega) (by omega) (fun c_42 => ?_) (fun c_42 => ?_)
        · refine lv_iload X.1 X.2.1 d_Ed_tokenAt_53 (lv_at hl 0 rfl) ?_
          refine z_istore_n (lv' := [(3, .int (iI ((mi : Nat):Int))), (4, .int (iI ((mi : Nat):Int))), (2, .int (iI (lo_:Int))), (0, .ref (h 0)), (1, .int (iI z1))]) X d_Ed_tokenAt_55 rfl hl (by decide) rfl (fun ls hl => ?_)
          refine z_goto (tgt := 13) X d_Ed_tokenAt_56 (by decide) ?_
          exact ih lo_ mi (by omega) (by omega) (by omega) h1 (fun k hk hk2 => by
            have := bg_mono (F := (sc a kt t n)) (k - mi) mi
            rw [show mi + (k - mi) = k by omega] at this
            omega) ls (lv_sub hl [0, 2, 3, 4] rfl)
        · refine lv_iload X.1 X.2.1 d_Ed_tokenAt_45 (lv_at hl 0 rfl) ?_
          refine z_iconst X d_Ed_tokenAt_47 ?_
          refine z_iadd (r := (((mi : Nat):Int) + 1)) X d_Ed_tokenAt_48 rfl ?_
          refine z_istore_n (lv' := [(2, .int (iI (((mi : Nat):Int) + 1))), (4, .int (iI ((mi : Nat):Int))), (3, .int (iI (hi_:Int))), (0, .ref (h 0)), (1, .int (iI z1))]) X d_Ed_tokenAt_49 rfl hl (by decide) rfl (fun ls hl => ?_)
          refine z_goto (tgt := 56) X d_Ed_tokenAt_50 (by decide) ?_
          refine z_goto (tgt := 13) X d_Ed_tokenAt_56 (by decide) ?_
          exact ih (mi + 1) hi_ (by omega) (by omega) (by omega) (fun k hk => by
            have := bg_mono (F := (sc a kt t n)) (mi - k) k
            rw [show k + (mi - k) = mi by omega] at this
            omega) h2 ls (lv_sub hl [2, 0, 3, 4] rfl)
  refine lv_iload_n X.1 X.2.1 d_Ed_tokenAt_0 rfl (lv_at hl 1 rfl) ?_
  refine z_if_ge (tgt := 6) X d_Ed_tokenAt_1 (by decide) (by omega) (fun c_1 => ?_) (fun c_1 => ?_)
  · refine z_iconst X d_Ed_tokenAt_6 ?_
    refine z_istore_n (lv' := [(2, .int (iI 0)), (0, .ref (h 0)), (1, .int (iI z1))]) X d_Ed_tokenAt_7 rfl hl (by decide) rfl (fun ls hl => ?_)
    refine lv_aload_n X.1 X.2.1 d_Ed_tokenAt_8 rfl (lv_at hl 1 rfl) ?_
    refine z_callR (rest := []) X hw k_Ed v_Ed_123 [] (c_Ed_tokens l D cA h _ a kt t n cn gA gK row P S L K yl d cl g rd an ed sz lk kd hI0 T hT) 0 rfl [0, 1, 2, 3, 4, 5, 6, 7, 8, 9, 10] rfl rfl rfl rfl hl.1 rfl (Nat.le_of_ble_eq_true rfl) ⟨rfl, rfl, Nat.le_of_ble_eq_true rfl, Nat.le_of_ble_eq_true rfl⟩ ⟨Nat.le_of_ble_eq_true rfl, Nat.le_of_ble_eq_true rfl⟩ d_Ed_tokenAt_9 (fun z_9 hz_9 => ?_)
    subst hz_9
    refine z_istore_n (lv' := [(3, .int (iI (T:Int))), (2, .int (iI 0)), (0, .ref (h 0)), (1, .int (iI z1))]) X d_Ed_tokenAt_12 rfl hl (by decide) rfl (fun ls hl => ?_)
    exact lp (T + 1) 0 T (by omega) (by omega) (by omega) (fun k hk => absurd hk (Nat.not_lt_zero k)) (fun k hk hk2 => by omega) ls (lv_sub hl [0, 1, 2, 3] rfl)
  · refine z_iconst X d_Ed_tokenAt_4 ?_
    exact z_iretR X hr hlk rfl (Or.inl ⟨rfl, fun k hk w => by omega⟩) d_Ed_tokenAt_5
end
section
set_option maxHeartbeats 4000000 in
set_option maxRecDepth 100000 in
/-- all anew; how many tokens there were -/
theorem c_Ed_clear (l : Launch) (D : va_G) (cA : Nat → ClassId) (h : Nat → Nat) (hs : Nat) (a kt t : Nat → Int) (n cn : Nat) (gA gK row P S L K : Nat → Int) (yl d cl g : Nat) (rd an ed sz lk kd : Int) (hI : CI a kt t n cn gA gK row P S L K yl d cl g) (T : Nat) (hT : TK (sc a kt t n) cn T) : Met l y_Ed_clear (cW y_Ed_clear b_Ed_clear 2 (some .int)) (rM 3 61) (zP [.ref (h 0)] D cA (w_Ed h cA gA gK row (yl:Int) ((yl + d : Nat):Int) P S L K (cl:Int) ((cl + g : Nat):Int) rd an ed sz lk kd) hs) (zQi (fun (z : Int) (u : (Nat → Int) × (Nat → Int)) => z = (T:Int) ∧ (∀ j, j < 200 → u.1 j = -1) ∧ ∀ j, j < 20 → u.2 j = -1) (fun u => (w_Ed h cA u.1 u.2 row 0 400 P S L K 0 401 0 0 0 sz lk kd)) D (w_Ed h cA gA gK row (yl:Int) ((yl + d : Nat):Int) P S L K (cl:Int) ((cl + g : Nat):Int) rd an ed sz lk kd) hs) 0 0 (va_A (w_Ed h cA gA gK row (yl:Int) ((yl + d : Nat):Int) P S L K (cl:Int) ((cl + g : Nat):Int) rd an ed sz lk kd) hs) := by
  refine z_ofW (lv := [(0, .ref (h 0))]) (by decide) (Nat.le_of_ble_eq_true rfl) rfl ?_
  intro p e s m below meth c ls hr hlk hnm X hhs hw hl
  have X : Cx p s m ([.ref (h 0)] : List Value).toArray c b_Ed_clear 2 R_Ed D cA := X
  have hI0 := hI
  refine lv_aload_n X.1 X.2.1 d_Ed_clear_0 rfl (lv_at hl 0 rfl) ?_
  refine z_callR (rest := []) X hw k_Ed v_Ed_123 [] (c_Ed_tokens l D cA h _ a kt t n cn gA gK row P S L K yl d cl g rd an ed sz lk kd hI0 T hT) 0 rfl [0, 1, 2, 3, 4, 5, 6, 7, 8, 9, 10] rfl rfl rfl rfl hl.1 rfl (Nat.le_of_ble_eq_true rfl) ⟨rfl, rfl, Nat.le_of_ble_eq_true rfl, Nat.le_of_ble_eq_true rfl⟩ ⟨Nat.le_of_ble_eq_true rfl, Nat.le_of_ble_eq_true rfl⟩ d_Ed_clear_1 (fun z_1 hz_1 => ?_)
  subst hz_1
  refine z_istore_n (lv' := [(1, .int (iI (T:Int))), (0, .ref (h 0))]) X d_Ed_clear_4 rfl hl (by decide) rfl (fun ls hl => ?_)
  refine lv_aload_n X.1 X.2.1 d_Ed_clear_5 rfl (lv_at hl 1 rfl) ?_
  refine z_get X hw k_Ed 0 rfl 1 (by decide) rfl m_fl_Ed_19 rfl d_Ed_clear_6 ?_
  refine z_afterV (w2 := fun u => (w_Ed h cA gA gK row 0 400 P S L K (cl:Int) ((cl + g : Nat):Int) rd an ed sz lk kd)) (wr := [(h 0, .inr (3, [.ref (h 1), .ref (h 4), .ref (h 6), .int (iI rd), .int (iI an), .int (iI ed), .int (iI sz), .int (iI lk), .int (iI kd)])), (h 1, .inr (0, [.ref (h 2), .ref (h 3)])), (h 2, .inl (cA 0, 200, .inl (zf gA))), (h 3, .inl (cA 0, 20, .inl (zf gK))), (h 5, .inl (cA 0, 400, .inl (zf row))), (h 6, .inr (2, [.ref (h 7), .ref (h 8), .ref (h 9), .ref (h 10), .int (iI (cl:Int)), .int (iI ((cl + g : Nat):Int))])), (h 7, .inl (cA 1, 401, .inl (zf P))), (h 8, .inl (cA 2, 401, .inl (zf S))), (h 9, .inl (cA 2, 401, .inl (zf L))), (h 10, .inl (cA 0, 401, .inl (zf K)))]) hw (z_runV (rest := []) X hw k_Sy v_Ed_129 [] (c_Sy_clear l D cA h _ (yl:Int) ((yl + d : Nat):Int)) 4 rfl [4] rfl rfl rfl rfl hl.1 rfl (Nat.le_of_ble_eq_true rfl) ⟨rfl, rfl, Nat.le_of_ble_eq_true rfl, Nat.le_of_ble_eq_true rfl⟩ ⟨Nat.le_of_ble_eq_true rfl, Nat.le_of_ble_eq_true rfl⟩ d_Ed_clear_9) [4] [0, 1, 2, 3, 5, 6, 7, 8, 9, 10] [0, 1, 2, 3, 10, 4, 5, 6, 7, 8, 9] rfl rfl rfl (by decide) rfl (fun _ => rfl) (fun _ => rfl) (fun u_9 H locs hu_9 hw => ?_)
  refine lv_aload_n X.1 X.2.1 d_Ed_clear_12 rfl (lv_at hl 1 rfl) ?_
  refine z_get X hw k_Ed 0 rfl 2 (by decide) rfl m_fl_Ed_26 rfl d_Ed_clear_13 ?_
  refine z_afterV (w2 := fun u => (w_Ed h cA gA gK row 0 400 P S L K 0 401 rd an ed sz lk kd)) (wr := [(h 0, .inr (3, [.ref (h 1), .ref (h 4), .ref (h 6), .int (iI rd), .int (iI an), .int (iI ed), .int (iI sz), .int (iI lk), .int (iI kd)])), (h 1, .inr (0, [.ref (h 2), .ref (h 3)])), (h 2, .inl (cA 0, 200, .inl (zf gA))), (h 3, .inl (cA 0, 20, .inl (zf gK))), (h 4, .inr (1, [.ref (h 5), .int (iI 0), .int (iI 400)])), (h 5, .inl (cA 0, 400, .inl (zf row))), (h 7, .inl (cA 1, 401, .inl (zf P))), (h 8, .inl (cA 2, 401, .inl (zf S))), (h 9, .inl (cA 2, 401, .inl (zf L))), (h 10, .inl (cA 0, 401, .inl (zf K)))]) hw (z_runV (rest := []) X hw k_Sn v_Ed_132 [] (c_Sn_clear l D cA h _ (cl:Int) ((cl + g : Nat):Int)) 6 rfl [6] rfl rfl rfl rfl hl.1 rfl (Nat.le_of_ble_eq_true rfl) ⟨rfl, rfl, Nat.le_of_ble_eq_true rfl, Nat.le_of_ble_eq_true rfl⟩ ⟨Nat.le_of_ble_eq_true rfl, Nat.le_of_ble_eq_true rfl⟩ d_Ed_clear_16) [6] [0, 1, 2, 3, 4, 5, 7, 8, 9, 10] [0, 1, 2, 3, 4, 5, 10, 6, 7, 8, 9] rfl rfl rfl (by decide) rfl (fun _ => rfl) (fun _ => rfl) (fun u_16 H locs hu_16 hw => ?_)
  refine lv_aload_n X.1 X.2.1 d_Ed_clear_19 rfl (lv_at hl 1 rfl) ?_
  refine z_get X hw k_Ed 0 rfl 0 (by decide) rfl m_fl_Ed_10 rfl d_Ed_clear_20 ?_
  refine z_afterV (w2 := fun u => (w_Ed h cA u.1 u.2 row 0 400 P S L K 0 401 rd an ed sz lk kd)) (wr := [(h 0, .inr (3, [.ref (h 1), .ref (h 4), .ref (h 6), .int (iI rd), .int (iI an), .int (iI ed), .int (iI sz), .int (iI lk), .int (iI kd)])), (h 4, .inr (1, [.ref (h 5), .int (iI 0), .int (iI 400)])), (h 5, .inl (cA 0, 400, .inl (zf row))), (h 6, .inr (2, [.ref (h 7), .ref (h 8), .ref (h 9), .ref (h 10), .int (iI 0), .int (iI 401)])), (h 7, .inl (cA 1, 401, .inl (zf P))), (h 8, .inl (cA 2, 401, .inl (zf S))), (h 9, .inl (cA 2, 401, .inl (zf L))), (h 10, .inl (cA 0, 401, .inl (zf K)))]) hw (z_runV (rest := []) X hw k_Tb v_Ed_133 [] (c_Tb_clear l D cA h _ gA gK) 1 rfl [1, 2, 3] rfl rfl rfl rfl hl.1 rfl (Nat.le_of_ble_eq_true rfl) ⟨rfl, rfl, Nat.le_of_ble_eq_true rfl, Nat.le_of_ble_eq_true rfl⟩ ⟨Nat.le_of_ble_eq_true rfl, Nat.le_of_ble_eq_true rfl⟩ d_Ed_clear_23) [1, 2, 3] [0, 4, 5, 6, 7, 8, 9, 10] [0, 8, 9, 10, 1, 2, 3, 4, 5, 6, 7] rfl rfl rfl (by decide) rfl (fun _ => rfl) (fun _ => rfl) (fun u_23 H locs hu_23 hw => ?_)
  refine lv_aload_n X.1 X.2.1 d_Ed_clear_26 rfl (lv_at hl 1 rfl) ?_
  refine z_iconst X d_Ed_clear_27 ?_
  refine z_put (ws' := (w_Ed h cA u_23.1 u_23.2 row 0 400 P S L K 0 401 0 an ed sz lk kd)) X hw k_Ed 0 rfl 3 (by decide) rfl rfl (Nat.le_of_ble_eq_true rfl) m_fl_Ed_94 rfl d_Ed_clear_28 rfl (fun H locs hw => ?_)
  refine lv_aload_n X.1 X.2.1 d_Ed_clear_31 rfl (lv_at hl 1 rfl) ?_
  refine z_iconst X d_Ed_clear_32 ?_
  refine z_put (ws' := (w_Ed h cA u_23.1 u_23.2 row 0 400 P S L K 0 401 0 0 ed sz lk kd)) X hw k_Ed 0 rfl 4 (by decide) rfl rfl (Nat.le_of_ble_eq_true rfl) m_fl_Ed_97 rfl d_Ed_clear_33 rfl (fun H locs hw => ?_)
  refine lv_aload_n X.1 X.2.1 d_Ed_clear_36 rfl (lv_at hl 1 rfl) ?_
  refine z_iconst X d_Ed_clear_37 ?_
  refine z_put (ws' := (w_Ed h cA u_23.1 u_23.2 row 0 400 P S L K 0 401 0 0 0 sz lk kd)) X hw k_Ed 0 rfl 5 (by decide) rfl rfl (Nat.le_of_ble_eq_true rfl) m_fl_Ed_104 rfl d_Ed_clear_38 rfl (fun H locs hw => ?_)
  refine lv_iload_n X.1 X.2.1 d_Ed_clear_41 rfl (lv_at hl 0 rfl) ?_
  exact z_iret X hr hlk rfl u_23 ⟨rfl, hu_23⟩ hw d_Ed_clear_42
def hE (q0 q1 q2 q3 q4 q5 q6 q7 q8 q9 q10 : Nat) : Nat → Nat := fun i => match i with | 0 => q0 | 1 => q1 | 2 => q2 | 3 => q3 | 4 => q4 | 5 => q5 | 6 => q6 | 7 => q7 | 8 => q8 | 9 => q9 | _ => q10
set_option maxHeartbeats 4000000 in
set_option maxRecDepth 100000 in
/-- a new scanner -/
theorem c_Ed_init (l : Launch) (D : va_G) (cA : Nat → ClassId)  (hs : Nat) (q : Nat) : Met l y_Ed_init (cW y_Ed_init b_Ed_init 1 none) { frames := 2, cells := 10, slots := 2235, locals := 41 } (zP [.ref q] D cA [(q, .inr (3, [.null, .null, .null, .int (iI 0), .int (iI 0), .int (iI 0), .int (iI 0), .int (iI 0), .int (iI 0)]))] hs) (zQv (fun u : (Nat → Nat) × (Nat → Int) × (Nat → Int) => u.1 0 = q ∧ (∀ j, j < 200 → u.2.1 j = -1) ∧ ∀ j, j < 20 → u.2.2 j = -1) (fun u => w_Ed u.1 cA u.2.1 u.2.2 (fun _ => 0) 0 400 (fun _ => 0) (fun _ => 0) (fun _ => 0) (fun _ => 0) 0 401 0 0 0 0 0 0) D [(q, .inr (3, [.null, .null, .null, .int (iI 0), .int (iI 0), .int (iI 0), .int (iI 0), .int (iI 0), .int (iI 0)]))] hs) 10 2235 (va_A [(q, .inr (3, [.null, .null, .null, .int (iI 0), .int (iI 0), .int (iI 0), .int (iI 0), .int (iI 0), .int (iI 0)]))] hs) := by
  refine z_ofW (lv := [(0, .ref q)]) (by decide) (Nat.le_of_ble_eq_true rfl) rfl ?_
  intro p e s m below meth c ls hr hlk hnm X hhs hw hl
  have X : Cx p s m ([.ref q] : List Value).toArray c b_Ed_init 1 R_Ed D cA := X
  refine lv_aload_n X.1 X.2.1 d_Ed_init_0 rfl (lv_at hl 0 rfl) ?_
  refine z_objInit X m_ml_Ed_1 hl.1 d_Ed_init_1 (Nat.le_of_ble_eq_true rfl) (Nat.le_of_ble_eq_true rfl) ?_
  refine lv_aload_n X.1 X.2.1 d_Ed_init_4 rfl (lv_at hl 0 rfl) ?_
  refine z_new (fs := [.null, .null]) X hw k_Tb m_cl_Ed_7 m_is_Tb m_in_Tb (fun j hj => by rcases (show j = 0 ∨ j = 1 by omega) with rfl | rfl <;> rfl) (Nat.le_of_ble_eq_true rfl) (Nat.le_of_ble_eq_true rfl) d_Ed_init_5 (fun q_5 H hw => ?_)
  refine W.widen (k := 1) (n := 2) (by decide) (by decide) ?_
  have hw : Wd D (va_A [(q, .inr (3, [.null, .null, .null, .int (iI 0), .int (iI 0), .int (iI 0), .int (iI 0), .int (iI 0), .int (iI 0)]))] hs) s.heap [(q, .inr (3, [.null, .null, .null, .int (iI 0), .int (iI 0), .int (iI 0), .int (iI 0), .int (iI 0), .int (iI 0)])), (q_5, .inr (0, [.null, .null]))] H _ := hw
  refine lv_dup X.1 X.2.1 d_Ed_init_8 rfl ?_
  refine z_afterV (w2 := fun u => [(q, .inr (3, [.null, .null, .null, .int (iI 0), .int (iI 0), .int (iI 0), .int (iI 0), .int (iI 0), .int (iI 0)])), (q_5, .inr (0, [.ref u.1, .ref u.2.1])), (u.1, .inl (cA 0, 200, .inl (zf u.2.2.1))), (u.2.1, .inl (cA 0, 20, .inl (zf u.2.2.2)))]) (wr := [(q, .inr (3, [.null, .null, .null, .int (iI 0), .int (iI 0), .int (iI 0), .int (iI 0), .int (iI 0), .int (iI 0)]))]) hw (z_runI (rest := [.ref q_5, .ref q]) X hw v_Ed_9 [] (c_Tb_init l D cA _ q_5) [1] rfl rfl rfl rfl hl.1 rfl (Nat.le_of_ble_eq_true rfl) ⟨rfl, rfl, Nat.le_of_ble_eq_true rfl, Nat.le_of_ble_eq_true rfl⟩ ⟨Nat.le_of_ble_eq_true rfl, Nat.le_of_ble_eq_true rfl⟩ d_Ed_init_9) [1] [0] [0, 1, 2, 3] rfl rfl rfl (by decide) rfl (fun _ => rfl) (fun _ => rfl) (fun u_9 H locs hu_9 hw => ?_)
  refine W.widen (k := 3) (n := 222) (by decide) (by decide) ?_
  refine z_putF (ws' := [(q, .inr (3, [.ref q_5, .null, .null, .int (iI 0), .int (iI 0), .int (iI 0), .int (iI 0), .int (iI 0), .int (iI 0)])), (q_5, .inr (0, [.ref u_9.1, .ref u_9.2.1])), (u_9.1, .inl (cA 0, 200, .inl (zf u_9.2.2.1))), (u_9.2.1, .inl (cA 0, 20, .inl (zf u_9.2.2.2)))]) X hw hnm k_Ed 0 rfl 0 (by decide) rfl rfl rfl rfl (Nat.le_of_ble_eq_true rfl) m_fl_Ed_10 rfl d_Ed_init_12 rfl (fun H locs hw => ?_)
  refine lv_aload_n X.1 X.2.1 d_Ed_init_15 rfl (lv_at hl 0 rfl) ?_
  refine z_new (fs := [.null, .int (iI 0), .int (iI 0)]) X hw k_Sy m_cl_Ed_16 m_is_Sy m_in_Sy (fun j hj => by rcases (show j = 0 ∨ j = 1 ∨ j = 2 by omega) with rfl | rfl | rfl <;> rfl) (Nat.le_of_ble_eq_true rfl) (Nat.le_of_ble_eq_true rfl) d_Ed_init_16 (fun q_16 H hw => ?_)
  refine W.widen (k := 4) (n := 225) (by decide) (by decide) ?_
  have hw : Wd D (va_A [(q, .inr (3, [.null, .null, .null, .int (iI 0), .int (iI 0), .int (iI 0), .int (iI 0), .int (iI 0), .int (iI 0)]))] hs) s.heap [(q, .inr (3, [.ref q_5, .null, .null, .int (iI 0), .int (iI 0), .int (iI 0), .int (iI 0), .int (iI 0), .int (iI 0)])), (q_5, .inr (0, [.ref u_9.1, .ref u_9.2.1])), (u_9.1, .inl (cA 0, 200, .inl (zf u_9.2.2.1))), (u_9.2.1, .inl (cA 0, 20, .inl (zf u_9.2.2.2))), (q_16, .inr (1, [.null, .int (iI 0), .int (iI 0)]))] H _ := hw
  refine lv_dup X.1 X.2.1 d_Ed_init_19 rfl ?_
  refine z_afterV (w2 := fun u => [(q, .inr (3, [.ref q_5, .null, .null, .int (iI 0), .int (iI 0), .int (iI 0), .int (iI 0), .int (iI 0), .int (iI 0)])), (q_5, .inr (0, [.ref u_9.1, .ref u_9.2.1])), (u_9.1, .inl (cA 0, 200, .inl (zf u_9.2.2.1))), (u_9.2.1, .inl (cA 0, 20, .inl (zf u_9.2.2.2))), (q_16, .inr (1, [.ref u, .int (iI 0), .int (iI 400)])), (u, .inl (cA 0, 400, .inl (zf (fun _ => 0))))]) (wr := [(q, .inr (3, [.ref q_5, .null, .null, .int (iI 0), .int (iI 0), .int (iI 0), .int (iI 0), .int (iI 0), .int (iI 0)])), (q_5, .inr (0, [.ref u_9.1, .ref u_9.2.1])), (u_9.1, .inl (cA 0, 200, .inl (zf u_9.2.2.1))), (u_9.2.1, .inl (cA 0, 20, .inl (zf u_9.2.2.2)))]) hw (z_runIN (rest := [.ref q_16, .ref q]) X hw (f_Ed_18 X.2.2.2.2.2.2) m_im_Sy_init m_in_Sy m_co_Sy_init x_Sy_init rfl [] (c_Sy_init l D cA _ q_16) [4] rfl rfl rfl rfl hl.1 rfl (Nat.le_of_ble_eq_true rfl) ⟨rfl, rfl, Nat.le_of_ble_eq_true rfl, Nat.le_of_ble_eq_true rfl⟩ ⟨Nat.le_of_ble_eq_true rfl, Nat.le_of_ble_eq_true rfl⟩ d_Ed_init_20) [4] [0, 1, 2, 3] [0, 1, 2, 3, 4, 5] rfl rfl rfl (by decide) rfl (fun _ => rfl) (fun _ => rfl) (fun u_20 H locs hu_20 hw => ?_)
  refine W.widen (k := 5) (n := 625) (by decide) (by decide) ?_
  refine z_putF (ws' := [(q, .inr (3, [.ref q_5, .ref q_16, .null, .int (iI 0), .int (iI 0), .int (iI 0), .int (iI 0), .int (iI 0), .int (iI 0)])), (q_5, .inr (0, [.ref u_9.1, .ref u_9.2.1])), (u_9.1, .inl (cA 0, 200, .inl (zf u_9.2.2.1))), (u_9.2.1, .inl (cA 0, 20, .inl (zf u_9.2.2.2))), (q_16, .inr (1, [.ref u_20, .int (iI 0), .int (iI 400)])), (u_20, .inl (cA 0, 400, .inl (zf (fun _ => 0))))]) X hw hnm k_Ed 0 rfl 1 (by decide) rfl rfl rfl rfl (Nat.le_of_ble_eq_true rfl) m_fl_Ed_19 rfl d_Ed_init_23 rfl (fun H locs hw => ?_)
  refine lv_aload_n X.1 X.2.1 d_Ed_init_26 rfl (lv_at hl 0 rfl) ?_
  refine z_new (fs := [.null, .null, .null, .null, .int (iI 0), .int (iI 0)]) X hw k_Sn m_cl_Ed_23 m_is_Sn m_in_Sn (fun j hj => by rcases (show j = 0 ∨ j = 1 ∨ j = 2 ∨ j = 3 ∨ j = 4 ∨ j = 5 by omega) with rfl | rfl | rfl | rfl | rfl | rfl <;> rfl) (Nat.le_of_ble_eq_true rfl) (Nat.le_of_ble_eq_true rfl) d_Ed_init_27 (fun q_27 H hw => ?_)
  refine W.widen (k := 6) (n := 631) (by decide) (by decide) ?_
  have hw : Wd D (va_A [(q, .inr (3, [.null, .null, .null, .int (iI 0), .int (iI 0), .int (iI 0), .int (iI 0), .int (iI 0), .int (iI 0)]))] hs) s.heap [(q, .inr (3, [.ref q_5, .ref q_16, .null, .int (iI 0), .int (iI 0), .int (iI 0), .int (iI 0), .int (iI 0), .int (iI 0)])), (q_5, .inr (0, [.ref u_9.1, .ref u_9.2.1])), (u_9.1, .inl (cA 0, 200, .inl (zf u_9.2.2.1))), (u_9.2.1, .inl (cA 0, 20, .inl (zf u_9.2.2.2))), (q_16, .inr (1, [.ref u_20, .int (iI 0), .int (iI 400)])), (u_20, .inl (cA 0, 400, .inl (zf (fun _ => 0)))), (q_27, .inr (2, [.null, .null, .null, .null, .int (iI 0), .int (iI 0)]))] H _ := hw
  refine lv_dup X.1 X.2.1 d_Ed_init_30 rfl ?_
  refine z_afterV (w2 := fun u => [(q, .inr (3, [.ref q_5, .ref q_16, .null, .int (iI 0), .int (iI 0), .int (iI 0), .int (iI 0), .int (iI 0), .int (iI 0)])), (q_5, .inr (0, [.ref u_9.1, .ref u_9.2.1])), (u_9.1, .inl (cA 0, 200, .inl (zf u_9.2.2.1))), (u_9.2.1, .inl (cA 0, 20, .inl (zf u_9.2.2.2))), (q_16, .inr (1, [.ref u_20, .int (iI 0), .int (iI 400)])), (u_20, .inl (cA 0, 400, .inl (zf (fun _ => 0)))), (q_27, .inr (2, [.ref u.1, .ref u.2.1, .ref u.2.2.1, .ref u.2.2.2, .int (iI 0), .int (iI 401)])), (u.1, .inl (cA 1, 401, .inl (zf (fun _ => 0)))), (u.2.1, .inl (cA 2, 401, .inl (zf (fun _ => 0)))), (u.2.2.1, .inl (cA 2, 401, .inl (zf (fun _ => 0)))), (u.2.2.2, .inl (cA 0, 401, .inl (zf (fun _ => 0))))]) (wr := [(q, .inr (3, [.ref q_5, .ref q_16, .null, .int (iI 0), .int (iI 0), .int (iI 0), .int (iI 0), .int (iI 0), .int (iI 0)])), (q_5, .inr (0, [.ref u_9.1, .ref u_9.2.1])), (u_9.1, .inl (cA 0, 200, .inl (zf u_9.2.2.1))), (u_9.2.1, .inl (cA 0, 20, .inl (zf u_9.2.2.2))), (q_16, .inr (1, [.ref u_20, .int (iI 0), .int (iI 400)])), (u_20, .inl (cA 0, 400, .inl (zf (fun _ => 0))))]) hw (z_runIN (rest := [.ref q_27, .ref q]) X hw (f_Ed_25 X.2.2.2.2.2.2) m_im_Sn_init m_in_Sn m_co_Sn_init x_Sn_init rfl [] (c_Sn_init l D cA _ q_27) [6] rfl rfl rfl rfl hl.1 rfl (Nat.le_of_ble_eq_true rfl) ⟨rfl, rfl, Nat.le_of_ble_eq_true rfl, Nat.le_of_ble_eq_true rfl⟩ ⟨Nat.le_of_ble_eq_true rfl, Nat.le_of_ble_eq_true rfl⟩ d_Ed_init_31) [6] [0, 1, 2, 3, 4, 5] [0, 1, 2, 3, 4, 5, 6, 7, 8, 9, 10] rfl rfl rfl (by decide) rfl (fun _ => rfl) (fun _ => rfl) (fun u_31 H locs hu_31 hw => ?_)
  refine W.widen (k := 10) (n := 2235) (by decide) (by decide) ?_
  refine z_putF (ws' := [(q, .inr (3, [.ref q_5, .ref q_16, .ref q_27, .int (iI 0), .int (iI 0), .int (iI 0), .int (iI 0), .int (iI 0), .int (iI 0)])), (q_5, .inr (0, [.ref u_9.1, .ref u_9.2.1])), (u_9.1, .inl (cA 0, 200, .inl (zf u_9.2.2.1))), (u_9.2.1, .inl (cA 0, 20, .inl (zf u_9.2.2.2))), (q_16, .inr (1, [.ref u_20, .int (iI 0), .int (iI 400)])), (u_20, .inl (cA 0, 400, .inl (zf (fun _ => 0)))), (q_27, .inr (2, [.ref u_31.1, .ref u_31.2.1, .ref u_31.2.2.1, .ref u_31.2.2.2, .int (iI 0), .int (iI 401)])), (u_31.1, .inl (cA 1, 401, .inl (zf (fun _ => 0)))), (u_31.2.1, .inl (cA 2, 401, .inl (zf (fun _ => 0)))), (u_31.2.2.1, .inl (cA 2, 401, .inl (zf (fun _ => 0)))), (u_31.2.2.2, .inl (cA 0, 401, .inl (zf (fun _ => 0))))]) X hw hnm k_Ed 0 rfl 2 (by decide) rfl rfl rfl rfl (Nat.le_of_ble_eq_true rfl) m_fl_Ed_26 rfl d_Ed_init_34 rfl (fun H locs hw => ?_)
  exact z_vret X hr hlk (hE q q_5 u_9.1 u_9.2.1 q_16 u_20 q_27 u_31.1 u_31.2.1 u_31.2.2.1 u_31.2.2.2, u_9.2.2.1, u_9.2.2.2) ⟨rfl, hu_9⟩ hw d_Ed_init_37
end
section
/-! ===== scanning anew: what is kept ===== -/
/-- what was scanned, in its rows -/
def CS (F : Nat → Nat × Nat × Int) (n cn : Nat) (P S L K : Nat → Int) (cl g : Nat) : Prop := cl + g ≤ 401 ∧ cn + g = 401 ∧ IsC F n cn ∧ ∀ i, i < cn → sP P cl (cl + g) n i = (bg F i : Nat) ∧ sX S cl (cl + g) i = ((F (bg F i)).2.1 : Nat) ∧ sX L cl (cl + g) i = ((F (bg F i)).1 : Nat) ∧ sX K cl (cl + g) i = (F (bg F i)).2.2
/-- a slot holds the item at x, with the place y -/
def It (F : Nat → Nat × Nat × Int) (x : Nat) (y : Int) (P S L K : Nat → Int) (k : Nat) : Prop := P k = y ∧ S k = ((F x).2.1 : Nat) ∧ L k = ((F x).1 : Nat) ∧ K k = (F x).2.2
theorem CS_end {F : Nat → Nat × Nat × Int} {n i : Nat} {P S L K : Nat → Int} (hi : i ≤ 401) (hC : IsC F n i) (hL : ∀ u, u < i → It F (bg F u) (bg F u : Nat) P S L K u) : CS F n i P S L K i (401 - i) := by
  refine ⟨by omega, by omega, hC, fun u hu => ?_⟩
  obtain ⟨h1, h2, h3, h4⟩ := hL u hu
  unfold sP sX
  rw [if_pos hu, so_l hu]
  exact ⟨h1, h2, h3, h4⟩
theorem CS_stay {F F' : Nat → Nat × Nat × Int} {n n' p o m i j c g : Nat} {P S L K : Nat → Int} (r : ER F F' n n' p o m) (k : IsC F n c) (hj : j < c) (hg : c + g = 401) (hij : i ≤ j + g) (h : p + o ≤ bg F j) (e : bg F' i + o = bg F j + m) (h1 : ∀ u, u < i → bg F' u < n') (h2 : ∀ u, u < i → 0 < (F' (bg F' u)).2.1)
    (hL : ∀ u, u < i → It F' (bg F' u) (bg F' u : Nat) P S L K u) (hR : ∀ u, j ≤ u → u < c → It F (bg F u) ((n : Int) - (bg F u : Nat)) P S L K (u + g)) : CS F' n' (i + (c - j)) P S L K i (j + g - i) := by
  refine ⟨by omega, by omega, IsC_shift r k hj h e h1 h2, fun w hw => ?_⟩
  by_cases q : w < i
  · obtain ⟨q1, q2, q3, q4⟩ := hL w q
    unfold sP sX
    rw [if_pos q, so_l q]
    exact ⟨q1, q2, q3, q4⟩
  · have s := bg_shift r h e (w - i)
    rw [show i + (w - i) = w by omega] at s
    obtain ⟨q1, q2, q3, q4⟩ := hR (j + (w - i)) (by omega) (by omega)
    have hb := k.1 (j + (w - i)) (by omega)
    have r2 := r.2.1
    unfold sP sX
    rw [if_neg q, so_r q, show w - i + (i + (j + g - i)) = j + (w - i) + g by omega, q1, q2, q3, q4, s.2]
    exact ⟨by omega, rfl, rfl, rfl⟩
theorem bg_all {F : Nat → Nat × Nat × Int} : ∀ (i : Nat), (∀ u, u < i → 0 < (F (bg F u)).2.1) → i ≤ bg F i := by
  intro i
  induction i with
  | zero => intro _; exact Nat.zero_le _
  | succ i ih =>
    intro h
    have h1 := ih (fun u hu => h u (by omega))
    have h2 := h i (by omega)
    show i + 1 ≤ bg F i + (F (bg F i)).2.1
    omega
/-- there is room for one more -/
theorem rs_room {F F' : Nat → Nat × Nat × Int} {n n' p o m i j c : Nat} (r : ER F F' n n' p o m) (k : IsC F n c) (hj : j ≤ c) (hx : j = c ∨ bg F' i + o ≤ bg F j + m) (ha : bg F' i < n') (h2 : ∀ u, u < i → 0 < (F' (bg F' u)).2.1) : i + (c - j) ≤ n' := by
  have h1 := bg_all i h2
  have r2 := r.2.1
  rcases Nat.lt_or_ge j c with q | q
  · have b1 := bg_strict k.2.1 (c - 1 - j) j (by omega)
    rw [show j + (c - 1 - j) = c - 1 by omega] at b1
    have b2 := k.1 (c - 1) (by omega)
    omega
  · omega
/-- it stops where the first that is left begins -/
theorem rs_stop {F : Nat → Nat × Nat × Int} {n p o m x j c i0 : Nat} {stop : Nat → Bool} (g : GF F n) (k : IsC F n c) (hS : St F c p o m stop) (hF : IsF F p c i0) (h0 : i0 ≤ j) (hd : ∀ u, i0 ≤ u → u < j → bg F u < p + o ∨ bg F u + m < x + o) (hx : j = c ∨ p + o ≤ bg F j ∧ x + o ≤ bg F j + m) (hjc : j ≤ c) : stop x = true ↔ p + m ≤ x ∧ j < c ∧ bg F j + m = x + o := by
  rw [hS x]
  constructor
  · rintro ⟨h1, u, h2, h3⟩
    have hu : j ≤ u := by
      rcases Nat.lt_or_ge u j with q | q
      · rcases Nat.lt_or_ge u i0 with q2 | q2
        · have a1 := hF.2.1 u q2
          have a2 := g (bg F u) (k.1 u h2)
          omega
        · have a1 := hd u q2 q
          omega
      · exact q
    have b1 := bg_mono (F := F) (u - j) j
    rw [show j + (u - j) = u by omega] at b1
    omega
  · rintro ⟨h1, h2, h3⟩
    exact ⟨h1, j, h2, h3⟩
theorem gov_stop {F : Nat → Nat × Nat × Int} {n x v : Nat} {stop : Nat → Bool} {rd an : Int} (h : ¬ (x < n ∧ stop x = false)) : gov F n stop v x rd an = (rd, an) := by
  cases v with
  | zero => rfl
  | succ v => unfold gov; rw [if_neg h]
theorem gov_fail {F : Nat → Nat × Nat × Int} {n x v : Nat} {stop : Nat → Bool} {rd an : Int} (h : x < n) (h2 : stop x = false) (h3 : (F x).2.1 = 0) : gov F n stop (v + 1) x rd an = (rd + ((F x).1 : Nat), an) := by
  conv => lhs; unfold gov
  rw [if_pos ⟨h, h2⟩, if_pos h3]
theorem gov_go {F : Nat → Nat × Nat × Int} {n x v : Nat} {stop : Nat → Bool} {rd an : Int} (h : x < n) (h2 : stop x = false) (h3 : ¬ (F x).2.1 = 0) : gov F n stop (v + 1) x rd an = gov F n stop v (x + (F x).2.1) (rd + ((F x).1 : Nat)) (an + 1) := by
  conv => lhs; unfold gov
  rw [if_pos ⟨h, h2⟩, if_neg h3]
theorem IsC_fin {F : Nat → Nat × Nat × Int} {n i : Nat} (h1 : ∀ u, u < i → bg F u < n) (h2 : ∀ u, u < i → 0 < (F (bg F u)).2.1) (h3 : bg F i = n) : IsC F n i := ⟨h1, fun u hu => h2 u (by omega), Or.inl h3⟩
theorem It_uz {F : Nat → Nat × Nat × Int} {P S L K : Nat → Int} {i : Nat} {y : Nat → Int} (h : ∀ u, u < i → It F (bg F u) (y u) P S L K u) : ∀ u, u < i + 1 → It F (bg F u) (y u) (uz P i (y i)) (uz S i ((F (bg F i)).2.1 : Nat)) (uz L i ((F (bg F i)).1 : Nat)) (uz K i (F (bg F i)).2.2) u := by
  intro u hu
  by_cases q : u = i
  · subst q
    exact ⟨uz_s, uz_s, uz_s, uz_s⟩
  · obtain ⟨h1, h2, h3, h4⟩ := h u (by omega)
    exact ⟨by rw [uz_n q]; exact h1, by rw [uz_n q]; exact h2, by rw [uz_n q]; exact h3, by rw [uz_n q]; exact h4⟩
theorem It_ne {F : Nat → Nat × Nat × Int} {P S L K : Nat → Int} {i k x : Nat} {y a1 a2 a3 a4 : Int} (q : k ≠ i) (h : It F x y P S L K k) : It F x y (uz P i a1) (uz S i a2) (uz L i a3) (uz K i a4) k := by
  obtain ⟨h1, h2, h3, h4⟩ := h
  exact ⟨by rw [uz_n q]; exact h1, by rw [uz_n q]; exact h2, by rw [uz_n q]; exact h3, by rw [uz_n q]; exact h4⟩
end
section
set_option maxHeartbeats 4000000 in
set_option maxRecDepth 100000 in
/-- from a place on, until one would begin where an old one does -/
theorem c_Ed_rescan (l : Launch) (D : va_G) (cA : Nat → ClassId) (h : Nat → Nat) (hs : Nat) (a kt t t2 : Nat → Int) (n n2 cn pl po pm re : Nat) (stop : Nat → Bool) (gA gK row P S L K : Nat → Int) (yl d i0 g : Nat) (rd an ed sz lk kd : Int) (hRg1 : Rg a kt t n) (hRg2 : Rg a kt t2 n2) (hgA : ∀ j, j < 200 → gA j = a j) (hgK : ∀ j, j < 20 → gK j = kt j) (hyd : yl + d ≤ 400) (hnd : n2 + d = 400) (htx : ∀ i, i < n2 → sX row yl (yl + d) i = t2 i) (hER : ER (sc a kt t n) (sc a kt t2 n2) n n2 pl po pm) (hC : IsC (sc a kt t n) n cn) (hFi : IsF (sc a kt t n) pl cn i0) (hns : ¬ (i0 = cn ∧ 0 < cn)) (hSt : St (sc a kt t n) cn pl po pm stop) (hcg : cn + g = 401) (hre : re + pl + po = n) (hL0 : ∀ u, u < i0 → It (sc a kt t2 n2) (bg (sc a kt t2 n2) u) (bg (sc a kt t2 n2) u : Nat) P S L K u) (hR0 : ∀ u, i0 ≤ u → u < cn → It (sc a kt t n) (bg (sc a kt t n) u) ((n : Int) - (bg (sc a kt t n) u : Nat)) P S L K (u + g)) : Met l y_Ed_rescan (cW y_Ed_rescan b_Ed_rescan 8 none) (rM 3 63) (zP [.ref (h 0), .int (iI ((bg (sc a kt t2 n2) i0 : Nat):Int)), .int (iI ((pl + pm : Nat):Int)), .int (iI (re:Int))] D cA (w_Ed h cA gA gK row (yl:Int) ((yl + d : Nat):Int) P S L K (i0:Int) ((i0 + g : Nat):Int) rd an ed sz lk kd) hs) (zQv (fun u : (Nat → Int) × (Nat → Int) × (Nat → Int) × (Nat → Int) × Nat × Nat × Nat × Int × Int × Int × Int × Int => CS (sc a kt t2 n2) n2 u.2.2.2.2.2.2.1 u.1 u.2.1 u.2.2.1 u.2.2.2.1 u.2.2.2.2.1 u.2.2.2.2.2.1 ∧ (u.2.2.2.2.2.2.2.1, u.2.2.2.2.2.2.2.2.1) = (gov (sc a kt t2 n2) n2 stop 402 (bg (sc a kt t2 n2) i0) rd an)) (fun u => (w_Ed h cA gA gK row (yl:Int) ((yl + d : Nat):Int) u.1 u.2.1 u.2.2.1 u.2.2.2.1 (u.2.2.2.2.1:Int) ((u.2.2.2.2.1 + u.2.2.2.2.2.1 : Nat):Int) u.2.2.2.2.2.2.2.1 u.2.2.2.2.2.2.2.2.1 ed u.2.2.2.2.2.2.2.2.2.1 u.2.2.2.2.2.2.2.2.2.2.1 u.2.2.2.2.2.2.2.2.2.2.2)) D (w_Ed h cA gA gK row (yl:Int) ((yl + d : Nat):Int) P S L K (i0:Int) ((i0 + g : Nat):Int) rd an ed sz lk kd) hs) 0 0 (va_A (w_Ed h cA gA gK row (yl:Int) ((yl + d : Nat):Int) P S L K (i0:Int) ((i0 + g : Nat):Int) rd an ed sz lk kd) hs) := by
  refine z_ofW (lv := [(0, .ref (h 0)), (1, .int (iI ((bg (sc a kt t2 n2) i0 : Nat):Int))), (2, .int (iI ((pl + pm : Nat):Int))), (3, .int (iI (re:Int)))]) (by decide) (Nat.le_of_ble_eq_true rfl) rfl ?_
  intro p e s m below meth c ls hr hlk hnm X hhs hw hl
  have X : Cx p s m ([.ref (h 0), .int (iI ((bg (sc a kt t2 n2) i0 : Nat):Int)), .int (iI ((pl + pm : Nat):Int)), .int (iI (re:Int))] : List Value).toArray c b_Ed_rescan 8 R_Ed D cA := X
  have hn1 := hRg1.2.2.2
  have hn2 := hRg2.2.2.2
  have hcle := IsC_le hC
  have hg1 := sc_GF hRg1
  have hg2 := sc_GF hRg2
  have hr1 := hER.1
  have hr2 := hER.2.1
  have hic := hFi.1
  have hsame := bg_same hER hFi.2.1
  have hpre : ∀ u, u < i0 → bg (sc a kt t2 n2) u < n2 ∧ 0 < ((sc a kt t2 n2) (bg (sc a kt t2 n2) u)).2.1 := fun u hu => by
    have e1 := hsame u (by omega)
    have e2 := hFi.2.1 u hu
    have e3 := hg1 (bg (sc a kt t n) u) (hC.1 u (by omega))
    have e4 := hC.2.1 u (by omega)
    rw [e1, hER.2.2.1 _ e2]
    omega
  have hbe : bg (sc a kt t2 n2) i0 ≤ n2 := by
    have e1 := hsame i0 (Nat.le_refl _)
    rcases Nat.eq_zero_or_pos i0 with q | q
    · rw [q]
      exact Nat.zero_le _
    · have e2 := hFi.2.1 (i0 - 1) (by omega)
      have e3 := hg1 (bg (sc a kt t n) (i0 - 1)) (hC.1 (i0 - 1) (by omega))
      have e4 : bg (sc a kt t n) i0 = bg (sc a kt t n) (i0 - 1) + ((sc a kt t n) (bg (sc a kt t n) (i0 - 1))).2.1 := by
        have : i0 = i0 - 1 + 1 := by omega
        rw [this]
        rfl
      omega
  have lp : ∀ (f : Nat) (i j v : Nat) (b : Int) (p1 s1 l1 k1 : Nat → Int) (r1 a1 z1 z2 z3 : Int), i0 ≤ i → i0 ≤ j → j ≤ cn → i ≤ j + g → bg (sc a kt t2 n2) i ≤ n2 → (∀ u, u < i → It (sc a kt t2 n2) (bg (sc a kt t2 n2) u) (bg (sc a kt t2 n2) u : Nat) p1 s1 l1 k1 u) → (∀ u, j ≤ u → u < cn → It (sc a kt t n) (bg (sc a kt t n) u) ((n : Int) - (bg (sc a kt t n) u : Nat)) p1 s1 l1 k1 (u + g)) → (∀ u, i0 ≤ u → u < j → bg (sc a kt t n) u < pl + po ∨ bg (sc a kt t n) u + pm < bg (sc a kt t2 n2) i + po) → (∀ u, u < i → bg (sc a kt t2 n2) u < n2) → (b = 0 ∧ n2 + 2 ≤ f + bg (sc a kt t2 n2) i ∧ n2 < v + bg (sc a kt t2 n2) i ∧ (∀ u, u < i → 0 < ((sc a kt t2 n2) (bg (sc a kt t2 n2) u)).2.1) ∧ gov (sc a kt t2 n2) n2 stop v (bg (sc a kt t2 n2) i) r1 a1 = (gov (sc a kt t2 n2) n2 stop 402 (bg (sc a kt t2 n2) i0) rd an) ∨ b = 1 ∧ 1 ≤ f ∧ IsC (sc a kt t2 n2) n2 i ∧ bg (sc a kt t2 n2) i < n2 ∧ (r1, a1) = (gov (sc a kt t2 n2) n2 stop 402 (bg (sc a kt t2 n2) i0) rd an)) → ∀ (H : Heap) (locs : List Loc) (ls : Array Slot), Wd D (va_A (w_Ed h cA gA gK row (yl:Int) ((yl + d : Nat):Int) P S L K (i0:Int) ((i0 + g : Nat):Int) rd an ed sz lk kd) hs) s.heap (w_Ed h cA gA gK row (yl:Int) ((yl + d : Nat):Int) p1 s1 l1 k1 (i:Int) ((j + g : Nat):Int) r1 a1 ed z1 z2 z3) H locs → lv_has ls 8 [(6, .int (iI b)), (5, .int (iI ((bg (sc a kt t2 n2) i : Nat):Int))), (4, .int (iI (n2:Int))), (0, .ref (h 0)), (1, .int (iI ((bg (sc a kt t2 n2) i0 : Nat):Int))), (2, .int (iI ((pl + pm : Nat):Int))), (3, .int (iI (re:Int)))] → W p l e (rM 3 63) s m ([.ref (h 0), .int (iI ((bg (sc a kt t2 n2) i0 : Nat):Int)), .int (iI ((pl + pm : Nat):Int)), .int (iI (re:Int))] : List Value).toArray below meth c H locs 0 0 (MQ below (zQv (fun u : (Nat → Int) × (Nat → Int) × (Nat → Int) × (Nat → Int) × Nat × Nat × Nat × Int × Int × Int × Int × Int => CS (sc a kt t2 n2) n2 u.2.2.2.2.2.2.1 u.1 u.2.1 u.2.2.1 u.2.2.2.1 u.2.2.2.2.1 u.2.2.2.2.2.1 ∧ (u.2.2.2.2.2.2.2.1, u.2.2.2.2.2.2.2.2.1) = (gov (sc a kt t2 n2) n2 stop 402 (bg (sc a kt t2 n2) i0) rd an)) (fun u => (w_Ed h cA gA gK row (yl:Int) ((yl + d : Nat):Int) u.1 u.2.1 u.2.2.1 u.2.2.2.1 (u.2.2.2.2.1:Int) ((u.2.2.2.2.1 + u.2.2.2.2.2.1 : Nat):Int) u.2.2.2.2.2.2.2.1 u.2.2.2.2.2.2.2.2.1 ed u.2.2.2.2.2.2.2.2.2.1 u.2.2.2.2.2.2.2.2.2.2.1 u.2.2.2.2.2.2.2.2.2.2.2)) D (w_Ed h cA gA gK row (yl:Int) ((yl + d : Nat):Int) P S L K (i0:Int) ((i0 + g : Nat):Int) rd an ed sz lk kd) hs) ([.ref (h 0), .int (iI ((bg (sc a kt t2 n2) i0 : Nat):Int)), .int (iI ((pl + pm : Nat):Int)), .int (iI (re:Int))] : List Value).toArray s 0 0 (va_A (w_Ed h cA gA gK row (yl:Int) ((yl + d : Nat):Int) P S L K (i0:Int) ((i0 + g : Nat):Int) rd an ed sz lk kd) hs)) (F0 m 15 ls []) := by
    intro f
    induction f with
    | zero =>
      intro i j v b p1 s1 l1 k1 r1 a1 z1 z2 z3 hij hj0 hjc hicr hat hL hR hd hlt hb H locs ls hw hl
      exfalso; omega
    | succ f ih =>
      intro i j v b p1 s1 l1 k1 r1 a1 z1 z2 z3 hij hj0 hjc hicr hat hL hR hd hlt hb H locs ls hw hl
      have ext : IsC (sc a kt t2 n2) n2 i → (r1, a1) = (gov (sc a kt t2 n2) n2 stop 402 (bg (sc a kt t2 n2) i0) rd an) → W p l e (rM 3 63) s m ([.ref (h 0), .int (iI ((bg (sc a kt t2 n2) i0 : Nat):Int)), .int (iI ((pl + pm : Nat):Int)), .int (iI (re:Int))] : List Value).toArray below meth c H locs 0 0 (MQ below (zQv (fun u : (Nat → Int) × (Nat → Int) × (Nat → Int) × (Nat → Int) × Nat × Nat × Nat × Int × Int × Int × Int × Int => CS (sc a kt t2 n2) n2 u.2.2.2.2.2.2.1 u.1 u.2.1 u.2.2.1 u.2.2.2.1 u.2.2.2.2.1 u.2.2.2.2.2.1 ∧ (u.2.2.2.2.2.2.2.1, u.2.2.2.2.2.2.2.2.1) = (gov (sc a kt t2 n2) n2 stop 402 (bg (sc a kt t2 n2) i0) rd an)) (fun u => (w_Ed h cA gA gK row (yl:Int) ((yl + d : Nat):Int) u.1 u.2.1 u.2.2.1 u.2.2.2.1 (u.2.2.2.2.1:Int) ((u.2.2.2.2.1 + u.2.2.2.2.2.1 : Nat):Int) u.2.2.2.2.2.2.2.1 u.2.2.2.2.2.2.2.2.1 ed u.2.2.2.2.2.2.2.2.2.1 u.2.2.2.2.2.2.2.2.2.2.1 u.2.2.2.2.2.2.2.2.2.2.2)) D (w_Ed h cA gA gK row (yl:Int) ((yl + d : Nat):Int) P S L K (i0:Int) ((i0 + g : Nat):Int) rd an ed sz lk kd) hs) ([.ref (h 0), .int (iI ((bg (sc a kt t2 n2) i0 : Nat):Int)), .int (iI ((pl + pm : Nat):Int)), .int (iI (re:Int))] : List Value).toArray s 0 0 (va_A (w_Ed h cA gA gK row (yl:Int) ((yl + d : Nat):Int) P S L K (i0:Int) ((i0 + g : Nat):Int) rd an ed sz lk kd) hs)) (F0 m 239 ls []) := by
        intro hc2 htg
        have hci := IsC_le hc2
        have hi4 : i ≤ 401 := by omega
        refine lv_aload_n X.1 X.2.1 d_Ed_rescan_239 rfl (lv_at hl 3 rfl) ?_
        refine z_get X hw k_Ed 0 rfl 2 (by decide) rfl m_fl_Ed_26 rfl d_Ed_rescan_240 ?_
        refine z_sipush X d_Ed_rescan_243 (by decide) ?_
        refine z_as (z := ((i + (401 - i) : Nat):Int)) (by omega) ?_
        refine z_putN (ws' := (w_Ed h cA gA gK row (yl:Int) ((yl + d : Nat):Int) p1 s1 l1 k1 (i:Int) ((i + (401 - i) : Nat):Int) r1 a1 ed z1 z2 z3)) X hw k_Sn 6 rfl 5 (by decide) rfl rfl (Nat.le_of_ble_eq_true rfl) (f_Ed_107 X.2.2.2.2.2.2) rfl d_Ed_rescan_246 rfl (fun H locs hw => ?_)
        exact z_vret X hr hlk (p1, s1, l1, k1, i, 401 - i, i, r1, a1, z1, z2, z3) ⟨CS_end hi4 hc2 hL, htg⟩ hw d_Ed_rescan_249
      refine lv_iload X.1 X.2.1 d_Ed_rescan_15 (lv_at hl 1 rfl) ?_
      refine lv_iload X.1 X.2.1 d_Ed_rescan_17 (lv_at hl 2 rfl) ?_
      refine z_icmp_ge (tgt := 239) X d_Ed_rescan_19 (by decide) (by omega) (by omega) (fun c_19 => ?_) (fun c_19 => ?_)
      · rcases hb with q | q
        · refine ext (IsC_fin hlt q.2.2.2.1 (by omega)) ?_
          rw [← q.2.2.2.2, gov_stop (by omega)]
        · omega
      · refine lv_iload X.1 X.2.1 d_Ed_rescan_22 (lv_at hl 0 rfl) ?_
        refine z_if_ne (tgt := 239) X d_Ed_rescan_24 (by decide) (by omega) (fun c_24 => ?_) (fun c_24 => ?_)
        · rcases hb with q | q
          · exact absurd q.1 c_24
          · exact ext q.2.2.1 q.2.2.2.2
        · obtain ⟨hb0, hf2, hv2, hpos, hgv⟩ : b = 0 ∧ n2 + 2 ≤ f + 1 + bg (sc a kt t2 n2) i ∧ n2 < v + bg (sc a kt t2 n2) i ∧ (∀ u, u < i → 0 < ((sc a kt t2 n2) (bg (sc a kt t2 n2) u)).2.1) ∧ gov (sc a kt t2 n2) n2 stop v (bg (sc a kt t2 n2) i) r1 a1 = (gov (sc a kt t2 n2) n2 stop 402 (bg (sc a kt t2 n2) i0) rd an) := by
            rcases hb with q | q
            · exact q
            · omega
          subst hb0
          obtain ⟨v1, rfl⟩ : ∃ v1, v = v1 + 1 := ⟨v - 1, by omega⟩
          have fin : ∀ (j : Nat), i0 ≤ j → j ≤ cn → i ≤ j + g → (∀ u, j ≤ u → u < cn → It (sc a kt t n) (bg (sc a kt t n) u) ((n : Int) - (bg (sc a kt t n) u : Nat)) p1 s1 l1 k1 (u + g)) → (∀ u, i0 ≤ u → u < j → bg (sc a kt t n) u < pl + po ∨ bg (sc a kt t n) u + pm < bg (sc a kt t2 n2) i + po) → (j = cn ∨ pl + po ≤ bg (sc a kt t n) j ∧ bg (sc a kt t2 n2) i + po ≤ bg (sc a kt t n) j + pm) → ∀ (H : Heap) (locs : List Loc) (ls : Array Slot), Wd D (va_A (w_Ed h cA gA gK row (yl:Int) ((yl + d : Nat):Int) P S L K (i0:Int) ((i0 + g : Nat):Int) rd an ed sz lk kd) hs) s.heap (w_Ed h cA gA gK row (yl:Int) ((yl + d : Nat):Int) p1 s1 l1 k1 (i:Int) ((j + g : Nat):Int) r1 a1 ed z1 z2 z3) H locs → lv_has ls 8 [(6, .int (iI 0)), (5, .int (iI ((bg (sc a kt t2 n2) i : Nat):Int))), (4, .int (iI (n2:Int))), (0, .ref (h 0)), (1, .int (iI ((bg (sc a kt t2 n2) i0 : Nat):Int))), (2, .int (iI ((pl + pm : Nat):Int))), (3, .int (iI (re:Int)))] → W p l e (rM 3 63) s m ([.ref (h 0), .int (iI ((bg (sc a kt t2 n2) i0 : Nat):Int)), .int (iI ((pl + pm : Nat):Int)), .int (iI (re:Int))] : List Value).toArray below meth c H locs 0 0 (MQ below (zQv (fun u : (Nat → Int) × (Nat → Int) × (Nat → Int) × (Nat → Int) × Nat × Nat × Nat × Int × Int × Int × Int × Int => CS (sc a kt t2 n2) n2 u.2.2.2.2.2.2.1 u.1 u.2.1 u.2.2.1 u.2.2.2.1 u.2.2.2.2.1 u.2.2.2.2.2.1 ∧ (u.2.2.2.2.2.2.2.1, u.2.2.2.2.2.2.2.2.1) = (gov (sc a kt t2 n2) n2 stop 402 (bg (sc a kt t2 n2) i0) rd an)) (fun u => (w_Ed h cA gA gK row (yl:Int) ((yl + d : Nat):Int) u.1 u.2.1 u.2.2.1 u.2.2.2.1 (u.2.2.2.2.1:Int) ((u.2.2.2.2.1 + u.2.2.2.2.2.1 : Nat):Int) u.2.2.2.2.2.2.2.1 u.2.2.2.2.2.2.2.2.1 ed u.2.2.2.2.2.2.2.2.2.1 u.2.2.2.2.2.2.2.2.2.2.1 u.2.2.2.2.2.2.2.2.2.2.2)) D (w_Ed h cA gA gK row (yl:Int) ((yl + d : Nat):Int) P S L K (i0:Int) ((i0 + g : Nat):Int) rd an ed sz lk kd) hs) ([.ref (h 0), .int (iI ((bg (sc a kt t2 n2) i0 : Nat):Int)), .int (iI ((pl + pm : Nat):Int)), .int (iI (re:Int))] : List Value).toArray s 0 0 (va_A (w_Ed h cA gA gK row (yl:Int) ((yl + d : Nat):Int) P S L K (i0:Int) ((i0 + g : Nat):Int) rd an ed sz lk kd) hs)) (F0 m 98 ls []) := by
            intro j hj0 hjc hicr hR hd hx H locs ls hw hl
            have hst := rs_stop hg1 hC hSt hFi hj0 hd hx hjc
            have hrm := rs_room hER hC hjc (by omega) (by omega) hpos
            have hgf := hg2 (bg (sc a kt t2 n2) i) (by omega)
            have hbs : bg (sc a kt t2 n2) (i + 1) = bg (sc a kt t2 n2) i + ((sc a kt t2 n2) (bg (sc a kt t2 n2) i)).2.1 := rfl
            have step : stop (bg (sc a kt t2 n2) i) = false → ∀ (ls : Array Slot), lv_has ls 8 [(7, .int (iI 0)), (6, .int (iI 0)), (5, .int (iI ((bg (sc a kt t2 n2) i : Nat):Int))), (4, .int (iI (n2:Int))), (0, .ref (h 0)), (1, .int (iI ((bg (sc a kt t2 n2) i0 : Nat):Int))), (2, .int (iI ((pl + pm : Nat):Int))), (3, .int (iI (re:Int)))] → W p l e (rM 3 63) s m ([.ref (h 0), .int (iI ((bg (sc a kt t2 n2) i0 : Nat):Int)), .int (iI ((pl + pm : Nat):Int)), .int (iI (re:Int))] : List Value).toArray below meth c H locs 0 0 (MQ below (zQv (fun u : (Nat → Int) × (Nat → Int) × (Nat → Int) × (Nat → Int) × Nat × Nat × Nat × Int × Int × Int × Int × Int => CS (sc a kt t2 n2) n2 u.2.2.2.2.2.2.1 u.1 u.2.1 u.2.2.1 u.2.2.2.1 u.2.2.2.2.1 u.2.2.2.2.2.1 ∧ (u.2.2.2.2.2.2.2.1, u.2.2.2.2.2.2.2.2.1) = (gov (sc a kt t2 n2) n2 stop 402 (bg (sc a kt t2 n2) i0) rd an)) (fun u => (w_Ed h cA gA gK row (yl:Int) ((yl + d : Nat):Int) u.1 u.2.1 u.2.2.1 u.2.2.2.1 (u.2.2.2.2.1:Int) ((u.2.2.2.2.1 + u.2.2.2.2.2.1 : Nat):Int) u.2.2.2.2.2.2.2.1 u.2.2.2.2.2.2.2.2.1 ed u.2.2.2.2.2.2.2.2.2.1 u.2.2.2.2.2.2.2.2.2.2.1 u.2.2.2.2.2.2.2.2.2.2.2)) D (w_Ed h cA gA gK row (yl:Int) ((yl + d : Nat):Int) P S L K (i0:Int) ((i0 + g : Nat):Int) rd an ed sz lk kd) hs) ([.ref (h 0), .int (iI ((bg (sc a kt t2 n2) i0 : Nat):Int)), .int (iI ((pl + pm : Nat):Int)), .int (iI (re:Int))] : List Value).toArray s 0 0 (va_A (w_Ed h cA gA gK row (yl:Int) ((yl + d : Nat):Int) P S L K (i0:Int) ((i0 + g : Nat):Int) rd an ed sz lk kd) hs)) (F0 m 153 ls []) := by
              intro hsf ls hl
              refine lv_aload_n X.1 X.2.1 d_Ed_rescan_153 rfl (lv_at hl 4 rfl) ?_
              refine lv_iload X.1 X.2.1 d_Ed_rescan_154 (lv_at hl 2 rfl) ?_
              refine z_afterV (w2 := fun u => (w_Ed h cA gA gK row (yl:Int) ((yl + d : Nat):Int) p1 s1 l1 k1 (i:Int) ((j + g : Nat):Int) r1 a1 ed (u.2.1:Int) (u.1:Int) u.2.2)) (wr := []) hw (z_runV (rest := []) X hw k_Ed v_Ed_112 [.int (iI ((bg (sc a kt t2 n2) i : Nat):Int))] (c_Ed_scan l D cA h _ a kt t2 n2 gA gK row p1 s1 l1 k1 yl d (i:Int) ((j + g : Nat):Int) r1 a1 ed z1 z2 z3 (bg (sc a kt t2 n2) i) hRg2 hgA hgK hyd hnd htx (by omega)) 0 rfl [0, 1, 2, 3, 4, 5, 6, 7, 8, 9, 10] rfl rfl rfl rfl hl.1 rfl (Nat.le_of_ble_eq_true rfl) ⟨rfl, rfl, Nat.le_of_ble_eq_true rfl, Nat.le_of_ble_eq_true rfl⟩ ⟨Nat.le_of_ble_eq_true rfl, Nat.le_of_ble_eq_true rfl⟩ d_Ed_rescan_156) [0, 1, 2, 3, 4, 5, 6, 7, 8, 9, 10] [] [0, 1, 2, 3, 4, 5, 6, 7, 8, 9, 10] rfl rfl rfl (by decide) rfl (fun _ => rfl) (fun _ => rfl) (fun u_156 H locs hu_156 hw => ?_)
              subst hu_156
              refine lv_aload_n X.1 X.2.1 d_Ed_rescan_159 rfl (lv_at hl 4 rfl) ?_
              refine lv_dup X.1 X.2.1 d_Ed_rescan_160 rfl ?_
              refine z_get X hw k_Ed 0 rfl 3 (by decide) rfl m_fl_Ed_94 rfl d_Ed_rescan_161 ?_
              refine lv_aload_n X.1 X.2.1 d_Ed_rescan_164 rfl (lv_at hl 4 rfl) ?_
              refine z_get X hw k_Ed 0 rfl 7 (by decide) rfl m_fl_Ed_48 rfl d_Ed_rescan_165 ?_
              refine z_iadd (r := (r1 + ((((sc a kt t2 n2) (bg (sc a kt t2 n2) i)).1 : Nat):Int))) X d_Ed_rescan_168 rfl ?_
              refine z_put (ws' := (w_Ed h cA gA gK row (yl:Int) ((yl + d : Nat):Int) p1 s1 l1 k1 (i:Int) ((j + g : Nat):Int) (r1 + ((((sc a kt t2 n2) (bg (sc a kt t2 n2) i)).1 : Nat):Int)) a1 ed ((((sc a kt t2 n2) (bg (sc a kt t2 n2) i)).2.1 : Nat):Int) ((((sc a kt t2 n2) (bg (sc a kt t2 n2) i)).1 : Nat):Int) (((sc a kt t2 n2) (bg (sc a kt t2 n2) i)).2.2))) X hw k_Ed 0 rfl 3 (by decide) rfl rfl (Nat.le_of_ble_eq_true rfl) m_fl_Ed_94 rfl d_Ed_rescan_169 rfl (fun H locs hw => ?_)
              refine lv_aload_n X.1 X.2.1 d_Ed_rescan_172 rfl (lv_at hl 4 rfl) ?_
              refine z_get X hw k_Ed 0 rfl 2 (by decide) rfl m_fl_Ed_26 rfl d_Ed_rescan_173 ?_
              refine lv_iload X.1 X.2.1 d_Ed_rescan_176 (lv_at hl 2 rfl) ?_
              refine lv_aload_n X.1 X.2.1 d_Ed_rescan_178 rfl (lv_at hl 4 rfl) ?_
              refine z_get X hw k_Ed 0 rfl 6 (by decide) rfl m_fl_Ed_45 rfl d_Ed_rescan_179 ?_
              refine lv_aload_n X.1 X.2.1 d_Ed_rescan_182 rfl (lv_at hl 4 rfl) ?_
              refine z_get X hw k_Ed 0 rfl 7 (by decide) rfl m_fl_Ed_48 rfl d_Ed_rescan_183 ?_
              refine lv_aload_n X.1 X.2.1 d_Ed_rescan_186 rfl (lv_at hl 4 rfl) ?_
              refine z_get X hw k_Ed 0 rfl 8 (by decide) rfl m_fl_Ed_51 rfl d_Ed_rescan_187 ?_
              refine z_afterV (w2 := fun u => (w_Ed h cA gA gK row (yl:Int) ((yl + d : Nat):Int) (uz p1 i ((bg (sc a kt t2 n2) i : Nat):Int)) (uz s1 i ((((sc a kt t2 n2) (bg (sc a kt t2 n2) i)).2.1 : Nat):Int)) (uz l1 i ((((sc a kt t2 n2) (bg (sc a kt t2 n2) i)).1 : Nat):Int)) (uz k1 i ((sc a kt t2 n2) (bg (sc a kt t2 n2) i)).2.2) ((i + 1 : Nat):Int) ((j + g : Nat):Int) (r1 + ((((sc a kt t2 n2) (bg (sc a kt t2 n2) i)).1 : Nat):Int)) a1 ed ((((sc a kt t2 n2) (bg (sc a kt t2 n2) i)).2.1 : Nat):Int) ((((sc a kt t2 n2) (bg (sc a kt t2 n2) i)).1 : Nat):Int) (((sc a kt t2 n2) (bg (sc a kt t2 n2) i)).2.2))) (wr := [(h 0, .inr (3, [.ref (h 1), .ref (h 4), .ref (h 6), .int (iI (r1 + ((((sc a kt t2 n2) (bg (sc a kt t2 n2) i)).1 : Nat):Int))), .int (iI a1), .int (iI ed), .int (iI ((((sc a kt t2 n2) (bg (sc a kt t2 n2) i)).2.1 : Nat):Int)), .int (iI ((((sc a kt t2 n2) (bg (sc a kt t2 n2) i)).1 : Nat):Int)), .int (iI (((sc a kt t2 n2) (bg (sc a kt t2 n2) i)).2.2))])), (h 1, .inr (0, [.ref (h 2), .ref (h 3)])), (h 2, .inl (cA 0, 200, .inl (zf gA))), (h 3, .inl (cA 0, 20, .inl (zf gK))), (h 4, .inr (1, [.ref (h 5), .int (iI (yl:Int)), .int (iI ((yl + d : Nat):Int))])), (h 5, .inl (cA 0, 400, .inl (zf row)))]) hw (z_runV (rest := []) X hw k_Sn v_Ed_115 [.int (iI ((bg (sc a kt t2 n2) i : Nat):Int)), .int (iI ((((sc a kt t2 n2) (bg (sc a kt t2 n2) i)).2.1 : Nat):Int)), .int (iI ((((sc a kt t2 n2) (bg (sc a kt t2 n2) i)).1 : Nat):Int)), .int (iI (((sc a kt t2 n2) (bg (sc a kt t2 n2) i)).2.2))] (c_Sn_put l D cA h _ p1 s1 l1 k1 i ((j + g : Nat):Int) ((bg (sc a kt t2 n2) i : Nat):Int) ((((sc a kt t2 n2) (bg (sc a kt t2 n2) i)).2.1 : Nat):Int) ((((sc a kt t2 n2) (bg (sc a kt t2 n2) i)).1 : Nat):Int) ((sc a kt t2 n2) (bg (sc a kt t2 n2) i)).2.2 (by omega) (by omega) (by omega) (by omega)) 6 rfl [6, 7, 8, 9, 10] rfl rfl rfl rfl hl.1 rfl (Nat.le_of_ble_eq_true rfl) ⟨rfl, rfl, Nat.le_of_ble_eq_true rfl, Nat.le_of_ble_eq_true rfl⟩ ⟨Nat.le_of_ble_eq_true rfl, Nat.le_of_ble_eq_true rfl⟩ d_Ed_rescan_190) [6, 7, 8, 9, 10] [0, 1, 2, 3, 4, 5] [0, 1, 2, 3, 4, 5, 6, 7, 8, 9, 10] rfl rfl rfl (by decide) rfl (fun _ => rfl) (fun _ => rfl) (fun u_190 H locs hu_190 hw => ?_)
              refine lv_aload_n X.1 X.2.1 d_Ed_rescan_193 rfl (lv_at hl 4 rfl) ?_
              refine z_get X hw k_Ed 0 rfl 8 (by decide) rfl m_fl_Ed_51 rfl d_Ed_rescan_194 ?_
              refine z_iconst X d_Ed_rescan_197 ?_
              refine z_icmp_ne (tgt := 205) X d_Ed_rescan_198 (by decide) (by omega) (by omega) (fun c_198 => ?_) (fun c_198 => ?_)
              · refine z_iconst X d_Ed_rescan_205 ?_
                refine z_istore (lv' := [(6, .int (iI 0)), (7, .int (iI 0)), (5, .int (iI ((bg (sc a kt t2 n2) i : Nat):Int))), (4, .int (iI (n2:Int))), (0, .ref (h 0)), (1, .int (iI ((bg (sc a kt t2 n2) i0 : Nat):Int))), (2, .int (iI ((pl + pm : Nat):Int))), (3, .int (iI (re:Int)))]) X d_Ed_rescan_206 hl (by decide) rfl (fun ls hl => ?_)
                refine lv_aload_n X.1 X.2.1 d_Ed_rescan_208 rfl (lv_at hl 4 rfl) ?_
                refine lv_dup X.1 X.2.1 d_Ed_rescan_209 rfl ?_
                refine z_get X hw k_Ed 0 rfl 4 (by decide) rfl m_fl_Ed_97 rfl d_Ed_rescan_210 ?_
                refine lv_iload X.1 X.2.1 d_Ed_rescan_213 (lv_at hl 0 rfl) ?_
                refine z_if_eq (tgt := 222) X d_Ed_rescan_215 (by decide) (by omega) (fun c_215 => ?_) (fun c_215 => ?_)
                · refine z_iconst X d_Ed_rescan_222 ?_
                  refine z_iadd (r := (a1 + 1)) X d_Ed_rescan_223 rfl ?_
                  refine z_put (ws' := (w_Ed h cA gA gK row (yl:Int) ((yl + d : Nat):Int) (uz p1 i ((bg (sc a kt t2 n2) i : Nat):Int)) (uz s1 i ((((sc a kt t2 n2) (bg (sc a kt t2 n2) i)).2.1 : Nat):Int)) (uz l1 i ((((sc a kt t2 n2) (bg (sc a kt t2 n2) i)).1 : Nat):Int)) (uz k1 i ((sc a kt t2 n2) (bg (sc a kt t2 n2) i)).2.2) ((i + 1 : Nat):Int) ((j + g : Nat):Int) (r1 + ((((sc a kt t2 n2) (bg (sc a kt t2 n2) i)).1 : Nat):Int)) (a1 + 1) ed ((((sc a kt t2 n2) (bg (sc a kt t2 n2) i)).2.1 : Nat):Int) ((((sc a kt t2 n2) (bg (sc a kt t2 n2) i)).1 : Nat):Int) (((sc a kt t2 n2) (bg (sc a kt t2 n2) i)).2.2))) X hw k_Ed 0 rfl 4 (by decide) rfl rfl (Nat.le_of_ble_eq_true rfl) m_fl_Ed_97 rfl d_Ed_rescan_224 rfl (fun H locs hw => ?_)
                  refine lv_iload X.1 X.2.1 d_Ed_rescan_227 (lv_at hl 2 rfl) ?_
                  refine lv_aload_n X.1 X.2.1 d_Ed_rescan_229 rfl (lv_at hl 4 rfl) ?_
                  refine z_get X hw k_Ed 0 rfl 6 (by decide) rfl m_fl_Ed_45 rfl d_Ed_rescan_230 ?_
                  refine z_iadd (r := ((bg (sc a kt t2 n2) (i + 1) : Nat):Int)) X d_Ed_rescan_233 (by omega) ?_
                  refine z_istore (lv' := [(5, .int (iI ((bg (sc a kt t2 n2) (i + 1) : Nat):Int))), (6, .int (iI 0)), (7, .int (iI 0)), (4, .int (iI (n2:Int))), (0, .ref (h 0)), (1, .int (iI ((bg (sc a kt t2 n2) i0 : Nat):Int))), (2, .int (iI ((pl + pm : Nat):Int))), (3, .int (iI (re:Int)))]) X d_Ed_rescan_234 hl (by decide) rfl (fun ls hl => ?_)
                  refine z_goto (tgt := 15) X d_Ed_rescan_236 (by decide) ?_
                  have hsp : ¬ (((sc a kt t2 n2) (bg (sc a kt t2 n2) i)).2.1 = 0) := fun q => c_198 (hgf.2.2.2.1.mpr q)
                  exact ih (i + 1) j v1 0 (uz p1 i ((bg (sc a kt t2 n2) i : Nat):Int)) (uz s1 i ((((sc a kt t2 n2) (bg (sc a kt t2 n2) i)).2.1 : Nat):Int)) (uz l1 i ((((sc a kt t2 n2) (bg (sc a kt t2 n2) i)).1 : Nat):Int)) (uz k1 i ((sc a kt t2 n2) (bg (sc a kt t2 n2) i)).2.2) (r1 + ((((sc a kt t2 n2) (bg (sc a kt t2 n2) i)).1 : Nat):Int)) (a1 + 1) ((((sc a kt t2 n2) (bg (sc a kt t2 n2) i)).2.1 : Nat):Int) ((((sc a kt t2 n2) (bg (sc a kt t2 n2) i)).1 : Nat):Int) (((sc a kt t2 n2) (bg (sc a kt t2 n2) i)).2.2) (by omega) (by omega) (by omega) (by omega) (by omega) (It_uz (y := fun u => ((bg (sc a kt t2 n2) u : Nat):Int)) hL) (fun u q1 q2 => It_ne (by omega) (hR u q1 q2)) (fun u q1 q2 => by have := hd u q1 q2; omega) (fun u hu => by
                    by_cases q : u = i
                    · rw [q]; omega
                    · exact hlt u (by omega)) (Or.inl ⟨rfl, by omega, by omega, fun u hu => by
                    by_cases q : u = i
                    · rw [q]; omega
                    · exact hpos u (by omega), by
                    rw [← hgv, gov_go (by omega) hsf hsp]
                    rfl⟩) H locs ls hw (lv_sub hl [1, 0, 3, 4, 5, 6, 7] rfl)
                · exfalso; omega
              · refine z_iconst X d_Ed_rescan_201 ?_
                refine z_goto (tgt := 206) X d_Ed_rescan_202 (by decide) ?_
                refine z_istore (lv' := [(6, .int (iI 1)), (7, .int (iI 0)), (5, .int (iI ((bg (sc a kt t2 n2) i : Nat):Int))), (4, .int (iI (n2:Int))), (0, .ref (h 0)), (1, .int (iI ((bg (sc a kt t2 n2) i0 : Nat):Int))), (2, .int (iI ((pl + pm : Nat):Int))), (3, .int (iI (re:Int)))]) X d_Ed_rescan_206 hl (by decide) rfl (fun ls hl => ?_)
                refine lv_aload_n X.1 X.2.1 d_Ed_rescan_208 rfl (lv_at hl 4 rfl) ?_
                refine lv_dup X.1 X.2.1 d_Ed_rescan_209 rfl ?_
                refine z_get X hw k_Ed 0 rfl 4 (by decide) rfl m_fl_Ed_97 rfl d_Ed_rescan_210 ?_
                refine lv_iload X.1 X.2.1 d_Ed_rescan_213 (lv_at hl 0 rfl) ?_
                refine z_if_eq (tgt := 222) X d_Ed_rescan_215 (by decide) (by omega) (fun c_215 => ?_) (fun c_215 => ?_)
                · exfalso; omega
                · refine z_iconst X d_Ed_rescan_218 ?_
                  refine z_goto (tgt := 223) X d_Ed_rescan_219 (by decide) ?_
                  refine z_iadd (r := a1) X d_Ed_rescan_223 (by omega) ?_
                  refine z_put (ws' := (w_Ed h cA gA gK row (yl:Int) ((yl + d : Nat):Int) (uz p1 i ((bg (sc a kt t2 n2) i : Nat):Int)) (uz s1 i ((((sc a kt t2 n2) (bg (sc a kt t2 n2) i)).2.1 : Nat):Int)) (uz l1 i ((((sc a kt t2 n2) (bg (sc a kt t2 n2) i)).1 : Nat):Int)) (uz k1 i ((sc a kt t2 n2) (bg (sc a kt t2 n2) i)).2.2) ((i + 1 : Nat):Int) ((j + g : Nat):Int) (r1 + ((((sc a kt t2 n2) (bg (sc a kt t2 n2) i)).1 : Nat):Int)) a1 ed ((((sc a kt t2 n2) (bg (sc a kt t2 n2) i)).2.1 : Nat):Int) ((((sc a kt t2 n2) (bg (sc a kt t2 n2) i)).1 : Nat):Int) (((sc a kt t2 n2) (bg (sc a kt t2 n2) i)).2.2))) X hw k_Ed 0 rfl 4 (by decide) rfl rfl (Nat.le_of_ble_eq_true rfl) m_fl_Ed_97 rfl d_Ed_rescan_224 rfl (fun H locs hw => ?_)
                  refine lv_iload X.1 X.2.1 d_Ed_rescan_227 (lv_at hl 2 rfl) ?_
                  refine lv_aload_n X.1 X.2.1 d_Ed_rescan_229 rfl (lv_at hl 4 rfl) ?_
                  refine z_get X hw k_Ed 0 rfl 6 (by decide) rfl m_fl_Ed_45 rfl d_Ed_rescan_230 ?_
                  refine z_iadd (r := ((bg (sc a kt t2 n2) (i + 1) : Nat):Int)) X d_Ed_rescan_233 (by omega) ?_
                  refine z_istore (lv' := [(5, .int (iI ((bg (sc a kt t2 n2) (i + 1) : Nat):Int))), (6, .int (iI 1)), (7, .int (iI 0)), (4, .int (iI (n2:Int))), (0, .ref (h 0)), (1, .int (iI ((bg (sc a kt t2 n2) i0 : Nat):Int))), (2, .int (iI ((pl + pm : Nat):Int))), (3, .int (iI (re:Int)))]) X d_Ed_rescan_234 hl (by decide) rfl (fun ls hl => ?_)
                  refine z_goto (tgt := 15) X d_Ed_rescan_236 (by decide) ?_
                  have hsz : ((sc a kt t2 n2) (bg (sc a kt t2 n2) i)).2.1 = 0 := hgf.2.2.2.1.mp c_198
                  exact ih (i + 1) j v1 1 (uz p1 i ((bg (sc a kt t2 n2) i : Nat):Int)) (uz s1 i ((((sc a kt t2 n2) (bg (sc a kt t2 n2) i)).2.1 : Nat):Int)) (uz l1 i ((((sc a kt t2 n2) (bg (sc a kt t2 n2) i)).1 : Nat):Int)) (uz k1 i ((sc a kt t2 n2) (bg (sc a kt t2 n2) i)).2.2) (r1 + ((((sc a kt t2 n2) (bg (sc a kt t2 n2) i)).1 : Nat):Int)) a1 ((((sc a kt t2 n2) (bg (sc a kt t2 n2) i)).2.1 : Nat):Int) ((((sc a kt t2 n2) (bg (sc a kt t2 n2) i)).1 : Nat):Int) (((sc a kt t2 n2) (bg (sc a kt t2 n2) i)).2.2) (by omega) (by omega) (by omega) (by omega) (by omega) (It_uz (y := fun u => ((bg (sc a kt t2 n2) u : Nat):Int)) hL) (fun u q1 q2 => It_ne (by omega) (hR u q1 q2)) (fun u q1 q2 => by have := hd u q1 q2; omega) (fun u hu => by
                    by_cases q : u = i
                    · rw [q]; omega
                    · exact hlt u (by omega)) (Or.inr ⟨rfl, by omega, ⟨fun u hu => by
                    by_cases q : u = i
                    · rw [q]; omega
                    · exact hlt u (by omega), fun u hu => hpos u (by omega), Or.inr ⟨by omega, hsz⟩⟩, by omega, by
                    rw [← hgv, gov_fail (by omega) hsf hsz]⟩) H locs ls hw (lv_sub hl [1, 0, 3, 4, 5, 6, 7] rfl)
            refine lv_iload X.1 X.2.1 d_Ed_rescan_98 (lv_at hl 1 rfl) ?_
            refine lv_iload_n X.1 X.2.1 d_Ed_rescan_100 rfl (lv_at hl 5 rfl) ?_
            refine z_icmp_lt (tgt := 144) X d_Ed_rescan_101 (by decide) (by omega) (by omega) (fun c_101 => ?_) (fun c_101 => ?_)
            · refine z_iconst X d_Ed_rescan_144 ?_
              refine z_istore (lv' := [(7, .int (iI 0)), (6, .int (iI 0)), (5, .int (iI ((bg (sc a kt t2 n2) i : Nat):Int))), (4, .int (iI (n2:Int))), (0, .ref (h 0)), (1, .int (iI ((bg (sc a kt t2 n2) i0 : Nat):Int))), (2, .int (iI ((pl + pm : Nat):Int))), (3, .int (iI (re:Int)))]) X d_Ed_rescan_145 hl (by decide) rfl (fun ls hl => ?_)
              refine lv_iload X.1 X.2.1 d_Ed_rescan_147 (lv_at hl 0 rfl) ?_
              refine z_if_eq (tgt := 153) X d_Ed_rescan_149 (by decide) (by omega) (fun c_149 => ?_) (fun c_149 => ?_)
              · exact step (Bool.eq_false_iff.mpr (fun q => by have := hst.mp q; omega)) ls (lv_sub hl [0, 1, 2, 3, 4, 5, 6, 7] rfl)
              · exfalso; omega
            · refine lv_aload_n X.1 X.2.1 d_Ed_rescan_104 rfl (lv_at hl 3 rfl) ?_
              refine z_get X hw k_Ed 0 rfl 2 (by decide) rfl m_fl_Ed_26 rfl d_Ed_rescan_105 ?_
              refine z_getN X hw k_Sn 6 rfl 5 (by decide) rfl (f_Ed_107 X.2.2.2.2.2.2) rfl d_Ed_rescan_108 ?_
              refine z_sipush X d_Ed_rescan_111 (by decide) ?_
              refine z_icmp_ge (tgt := 144) X d_Ed_rescan_114 (by decide) (by omega) (by omega) (fun c_114 => ?_) (fun c_114 => ?_)
              · refine z_iconst X d_Ed_rescan_144 ?_
                refine z_istore (lv' := [(7, .int (iI 0)), (6, .int (iI 0)), (5, .int (iI ((bg (sc a kt t2 n2) i : Nat):Int))), (4, .int (iI (n2:Int))), (0, .ref (h 0)), (1, .int (iI ((bg (sc a kt t2 n2) i0 : Nat):Int))), (2, .int (iI ((pl + pm : Nat):Int))), (3, .int (iI (re:Int)))]) X d_Ed_rescan_145 hl (by decide) rfl (fun ls hl => ?_)
                refine lv_iload X.1 X.2.1 d_Ed_rescan_147 (lv_at hl 0 rfl) ?_
                refine z_if_eq (tgt := 153) X d_Ed_rescan_149 (by decide) (by omega) (fun c_149 => ?_) (fun c_149 => ?_)
                · exact step (Bool.eq_false_iff.mpr (fun q => by have := hst.mp q; omega)) ls (lv_sub hl [0, 1, 2, 3, 4, 5, 6, 7] rfl)
                · exfalso; omega
              · have hbj := hC.1 j (by omega)
                refine lv_iload X.1 X.2.1 d_Ed_rescan_117 (lv_at hl 2 rfl) ?_
                refine lv_aload_n X.1 X.2.1 d_Ed_rescan_119 rfl (lv_at hl 3 rfl) ?_
                refine z_get X hw k_Ed 0 rfl 2 (by decide) rfl m_fl_Ed_26 rfl d_Ed_rescan_120 ?_
                refine z_getN X hw k_Sn 6 rfl 0 (by decide) rfl (f_Ed_108 X.2.2.2.2.2.2) rfl d_Ed_rescan_123 ?_
                refine lv_aload_n X.1 X.2.1 d_Ed_rescan_126 rfl (lv_at hl 3 rfl) ?_
                refine z_get X hw k_Ed 0 rfl 2 (by decide) rfl m_fl_Ed_26 rfl d_Ed_rescan_127 ?_
                refine z_getN X hw k_Sn 6 rfl 5 (by decide) rfl (f_Ed_107 X.2.2.2.2.2.2) rfl d_Ed_rescan_130 ?_
                refine z_iald X hw 7 rfl (j + g) (by omega) (by omega) (by decide) d_Ed_rescan_133 ?_
                refine z_as (z := ((n:Int) - ((bg (sc a kt t n) j : Nat):Int))) (hR j (by omega) (by omega)).1 ?_
                refine z_isub (r := ((n2:Int) - ((n:Int) - ((bg (sc a kt t n) j : Nat):Int)))) X d_Ed_rescan_134 rfl ?_
                refine lv_iload X.1 X.2.1 d_Ed_rescan_135 (lv_at hl 1 rfl) ?_
                refine z_icmp_ne (tgt := 144) X d_Ed_rescan_137 (by decide) (by omega) (by omega) (fun c_137 => ?_) (fun c_137 => ?_)
                · refine z_iconst X d_Ed_rescan_144 ?_
                  refine z_istore (lv' := [(7, .int (iI 0)), (6, .int (iI 0)), (5, .int (iI ((bg (sc a kt t2 n2) i : Nat):Int))), (4, .int (iI (n2:Int))), (0, .ref (h 0)), (1, .int (iI ((bg (sc a kt t2 n2) i0 : Nat):Int))), (2, .int (iI ((pl + pm : Nat):Int))), (3, .int (iI (re:Int)))]) X d_Ed_rescan_145 hl (by decide) rfl (fun ls hl => ?_)
                  refine lv_iload X.1 X.2.1 d_Ed_rescan_147 (lv_at hl 0 rfl) ?_
                  refine z_if_eq (tgt := 153) X d_Ed_rescan_149 (by decide) (by omega) (fun c_149 => ?_) (fun c_149 => ?_)
                  · exact step (Bool.eq_false_iff.mpr (fun q => by have := hst.mp q; omega)) ls (lv_sub hl [0, 1, 2, 3, 4, 5, 6, 7] rfl)
                  · exfalso; omega
                · refine z_iconst X d_Ed_rescan_140 ?_
                  refine z_goto (tgt := 145) X d_Ed_rescan_141 (by decide) ?_
                  refine z_istore (lv' := [(7, .int (iI 1)), (6, .int (iI 0)), (5, .int (iI ((bg (sc a kt t2 n2) i : Nat):Int))), (4, .int (iI (n2:Int))), (0, .ref (h 0)), (1, .int (iI ((bg (sc a kt t2 n2) i0 : Nat):Int))), (2, .int (iI ((pl + pm : Nat):Int))), (3, .int (iI (re:Int)))]) X d_Ed_rescan_145 hl (by decide) rfl (fun ls hl => ?_)
                  refine lv_iload X.1 X.2.1 d_Ed_rescan_147 (lv_at hl 0 rfl) ?_
                  refine z_if_eq (tgt := 153) X d_Ed_rescan_149 (by decide) (by omega) (fun c_149 => ?_) (fun c_149 => ?_)
                  · exfalso; omega
                  · have eg : j + g = i + (j + g - i) := by omega
                    have hbj := hC.1 j (by omega)
                    have hsx : ¬ (bg (sc a kt t2 n2) i < n2 ∧ stop (bg (sc a kt t2 n2) i) = false) := fun q => by
                      have := hst.mpr ⟨by omega, by omega, by omega⟩
                      rw [this] at q
                      exact absurd q.2 (by decide)
                    rw [gov_stop hsx] at hgv
                    rw [eg] at hw
                    exact z_vret X hr hlk (p1, s1, l1, k1, i, j + g - i, i + (cn - j), r1, a1, z1, z2, z3) ⟨CS_stay hER hC (by omega) hcg hicr (by omega) (by omega) hlt hpos hL hR, hgv⟩ hw d_Ed_rescan_152
          have inner : ∀ (f2 : Nat) (j : Nat), cn < f2 + j → i0 ≤ j → j ≤ cn → i ≤ j + g → (∀ u, j ≤ u → u < cn → It (sc a kt t n) (bg (sc a kt t n) u) ((n : Int) - (bg (sc a kt t n) u : Nat)) p1 s1 l1 k1 (u + g)) → (∀ u, i0 ≤ u → u < j → bg (sc a kt t n) u < pl + po ∨ bg (sc a kt t n) u + pm < bg (sc a kt t2 n2) i + po) → ∀ (H : Heap) (locs : List Loc) (ls : Array Slot), Wd D (va_A (w_Ed h cA gA gK row (yl:Int) ((yl + d : Nat):Int) P S L K (i0:Int) ((i0 + g : Nat):Int) rd an ed sz lk kd) hs) s.heap (w_Ed h cA gA gK row (yl:Int) ((yl + d : Nat):Int) p1 s1 l1 k1 (i:Int) ((j + g : Nat):Int) r1 a1 ed z1 z2 z3) H locs → lv_has ls 8 [(6, .int (iI 0)), (5, .int (iI ((bg (sc a kt t2 n2) i : Nat):Int))), (4, .int (iI (n2:Int))), (0, .ref (h 0)), (1, .int (iI ((bg (sc a kt t2 n2) i0 : Nat):Int))), (2, .int (iI ((pl + pm : Nat):Int))), (3, .int (iI (re:Int)))] → W p l e (rM 3 63) s m ([.ref (h 0), .int (iI ((bg (sc a kt t2 n2) i0 : Nat):Int)), .int (iI ((pl + pm : Nat):Int)), .int (iI (re:Int))] : List Value).toArray below meth c H locs 0 0 (MQ below (zQv (fun u : (Nat → Int) × (Nat → Int) × (Nat → Int) × (Nat → Int) × Nat × Nat × Nat × Int × Int × Int × Int × Int => CS (sc a kt t2 n2) n2 u.2.2.2.2.2.2.1 u.1 u.2.1 u.2.2.1 u.2.2.2.1 u.2.2.2.2.1 u.2.2.2.2.2.1 ∧ (u.2.2.2.2.2.2.2.1, u.2.2.2.2.2.2.2.2.1) = (gov (sc a kt t2 n2) n2 stop 402 (bg (sc a kt t2 n2) i0) rd an)) (fun u => (w_Ed h cA gA gK row (yl:Int) ((yl + d : Nat):Int) u.1 u.2.1 u.2.2.1 u.2.2.2.1 (u.2.2.2.2.1:Int) ((u.2.2.2.2.1 + u.2.2.2.2.2.1 : Nat):Int) u.2.2.2.2.2.2.2.1 u.2.2.2.2.2.2.2.2.1 ed u.2.2.2.2.2.2.2.2.2.1 u.2.2.2.2.2.2.2.2.2.2.1 u.2.2.2.2.2.2.2.2.2.2.2)) D (w_Ed h cA gA gK row (yl:Int) ((yl + d : Nat):Int) P S L K (i0:Int) ((i0 + g : Nat):Int) rd an ed sz lk kd) hs) ([.ref (h 0), .int (iI ((bg (sc a kt t2 n2) i0 : Nat):Int)), .int (iI ((pl + pm : Nat):Int)), .int (iI (re:Int))] : List Value).toArray s 0 0 (va_A (w_Ed h cA gA gK row (yl:Int) ((yl + d : Nat):Int) P S L K (i0:Int) ((i0 + g : Nat):Int) rd an ed sz lk kd) hs)) (F0 m 27 ls []) := by
            intro f2
            induction f2 with
            | zero =>
              intro j hf3 hj0 hjc hicr hR hd H locs ls hw hl
              exfalso; omega
            | succ f2 ih2 =>
              intro j hf3 hj0 hjc hicr hR hd H locs ls hw hl
              refine lv_aload_n X.1 X.2.1 d_Ed_rescan_27 rfl (lv_at hl 3 rfl) ?_
              refine z_get X hw k_Ed 0 rfl 2 (by decide) rfl m_fl_Ed_26 rfl d_Ed_rescan_28 ?_
              refine z_getN X hw k_Sn 6 rfl 5 (by decide) rfl (f_Ed_107 X.2.2.2.2.2.2) rfl d_Ed_rescan_31 ?_
              refine z_sipush X d_Ed_rescan_34 (by decide) ?_
              refine z_icmp_ge (tgt := 98) X d_Ed_rescan_37 (by decide) (by omega) (by omega) (fun c_37 => ?_) (fun c_37 => ?_)
              · exact fin j hj0 hjc hicr hR hd (by omega) H locs ls hw (lv_sub hl [0, 1, 2, 3, 4, 5, 6] rfl)
              · have hbj := hC.1 j (by omega)
                have hvj := (hR j (by omega) (by omega)).1
                refine lv_aload_n X.1 X.2.1 d_Ed_rescan_40 rfl (lv_at hl 3 rfl) ?_
                refine z_get X hw k_Ed 0 rfl 2 (by decide) rfl m_fl_Ed_26 rfl d_Ed_rescan_41 ?_
                refine z_getN X hw k_Sn 6 rfl 0 (by decide) rfl (f_Ed_108 X.2.2.2.2.2.2) rfl d_Ed_rescan_44 ?_
                refine lv_aload_n X.1 X.2.1 d_Ed_rescan_47 rfl (lv_at hl 3 rfl) ?_
                refine z_get X hw k_Ed 0 rfl 2 (by decide) rfl m_fl_Ed_26 rfl d_Ed_rescan_48 ?_
                refine z_getN X hw k_Sn 6 rfl 5 (by decide) rfl (f_Ed_107 X.2.2.2.2.2.2) rfl d_Ed_rescan_51 ?_
                refine z_iald X hw 7 rfl (j + g) (by omega) (by omega) (by decide) d_Ed_rescan_54 ?_
                refine z_as (z := ((n:Int) - ((bg (sc a kt t n) j : Nat):Int))) hvj ?_
                refine lv_iload_n X.1 X.2.1 d_Ed_rescan_55 rfl (lv_at hl 6 rfl) ?_
                refine z_icmp_gt (tgt := 82) X d_Ed_rescan_56 (by decide) (by omega) (by omega) (fun c_56 => ?_) (fun c_56 => ?_)
                · refine lv_aload_n X.1 X.2.1 d_Ed_rescan_82 rfl (lv_at hl 3 rfl) ?_
                  refine z_get X hw k_Ed 0 rfl 2 (by decide) rfl m_fl_Ed_26 rfl d_Ed_rescan_83 ?_
                  refine lv_dup X.1 X.2.1 d_Ed_rescan_86 rfl ?_
                  refine z_getN X hw k_Sn 6 rfl 5 (by decide) rfl (f_Ed_107 X.2.2.2.2.2.2) rfl d_Ed_rescan_87 ?_
                  refine z_iconst X d_Ed_rescan_90 ?_
                  refine z_iadd (r := ((j + 1 + g : Nat):Int)) X d_Ed_rescan_91 (by omega) ?_
                  refine z_putN (ws' := (w_Ed h cA gA gK row (yl:Int) ((yl + d : Nat):Int) p1 s1 l1 k1 (i:Int) ((j + 1 + g : Nat):Int) r1 a1 ed z1 z2 z3)) X hw k_Sn 6 rfl 5 (by decide) rfl rfl (Nat.le_of_ble_eq_true rfl) (f_Ed_107 X.2.2.2.2.2.2) rfl d_Ed_rescan_92 rfl (fun H locs hw => ?_)
                  refine z_goto (tgt := 27) X d_Ed_rescan_95 (by decide) ?_
                  exact ih2 (j + 1) (by omega) (by omega) (by omega) (by omega) (fun u q1 q2 => hR u (by omega) q2) (fun u q1 q2 => by
                    by_cases q : u = j
                    · rw [q]; omega
                    · exact hd u q1 (by omega)) H locs ls hw (lv_sub hl [0, 1, 2, 3, 4, 5, 6] rfl)
                · refine lv_iload X.1 X.2.1 d_Ed_rescan_59 (lv_at hl 2 rfl) ?_
                  refine lv_aload_n X.1 X.2.1 d_Ed_rescan_61 rfl (lv_at hl 3 rfl) ?_
                  refine z_get X hw k_Ed 0 rfl 2 (by decide) rfl m_fl_Ed_26 rfl d_Ed_rescan_62 ?_
                  refine z_getN X hw k_Sn 6 rfl 0 (by decide) rfl (f_Ed_108 X.2.2.2.2.2.2) rfl d_Ed_rescan_65 ?_
                  refine lv_aload_n X.1 X.2.1 d_Ed_rescan_68 rfl (lv_at hl 3 rfl) ?_
                  refine z_get X hw k_Ed 0 rfl 2 (by decide) rfl m_fl_Ed_26 rfl d_Ed_rescan_69 ?_
                  refine z_getN X hw k_Sn 6 rfl 5 (by decide) rfl (f_Ed_107 X.2.2.2.2.2.2) rfl d_Ed_rescan_72 ?_
                  refine z_iald X hw 7 rfl (j + g) (by omega) (by omega) (by decide) d_Ed_rescan_75 ?_
                  refine z_as (z := ((n:Int) - ((bg (sc a kt t n) j : Nat):Int))) hvj ?_
                  refine z_isub (r := ((n2:Int) - ((n:Int) - ((bg (sc a kt t n) j : Nat):Int)))) X d_Ed_rescan_76 rfl ?_
                  refine lv_iload X.1 X.2.1 d_Ed_rescan_77 (lv_at hl 1 rfl) ?_
                  refine z_icmp_ge (tgt := 98) X d_Ed_rescan_79 (by decide) (by omega) (by omega) (fun c_79 => ?_) (fun c_79 => ?_)
                  · exact fin j hj0 hjc hicr hR hd (by omega) H locs ls hw (lv_sub hl [0, 1, 2, 3, 4, 5, 6] rfl)
                  · refine lv_aload_n X.1 X.2.1 d_Ed_rescan_82 rfl (lv_at hl 3 rfl) ?_
                    refine z_get X hw k_Ed 0 rfl 2 (by decide) rfl m_fl_Ed_26 rfl d_Ed_rescan_83 ?_
                    refine lv_dup X.1 X.2.1 d_Ed_rescan_86 rfl ?_
                    refine z_getN X hw k_Sn 6 rfl 5 (by decide) rfl (f_Ed_107 X.2.2.2.2.2.2) rfl d_Ed_rescan_87 ?_
                    refine z_iconst X d_Ed_rescan_90 ?_
                    refine z_iadd (r := ((j + 1 + g : Nat):Int)) X d_Ed_rescan_91 (by omega) ?_
                    refine z_putN (ws' := (w_Ed h cA gA gK row (yl:Int) ((yl + d : Nat):Int) p1 s1 l1 k1 (i:Int) ((j + 1 + g : Nat):Int) r1 a1 ed z1 z2 z3)) X hw k_Sn 6 rfl 5 (by decide) rfl rfl (Nat.le_of_ble_eq_true rfl) (f_Ed_107 X.2.2.2.2.2.2) rfl d_Ed_rescan_92 rfl (fun H locs hw => ?_)
                    refine z_goto (tgt := 27) X d_Ed_rescan_95 (by decide) ?_
                    exact ih2 (j + 1) (by omega) (by omega) (by omega) (by omega) (fun u q1 q2 => hR u (by omega) q2) (fun u q1 q2 => by
                      by_cases q : u = j
                      · rw [q]; omega
                      · exact hd u q1 (by omega)) H locs ls hw (lv_sub hl [0, 1, 2, 3, 4, 5, 6] rfl)
          exact inner (cn + 1) j (by omega) hj0 hjc hicr hR hd H locs ls hw hl
  refine lv_aload_n X.1 X.2.1 d_Ed_rescan_0 rfl (lv_at hl 0 rfl) ?_
  refine z_get X hw k_Ed 0 rfl 1 (by decide) rfl m_fl_Ed_19 rfl d_Ed_rescan_1 ?_
  refine z_callR (rest := []) X hw k_Sy v_Ed_34 [] (c_Sy_size l D cA h _ (yl:Int) ((yl + d : Nat):Int)) 4 rfl [4] rfl rfl rfl rfl hl.1 rfl (Nat.le_of_ble_eq_true rfl) ⟨rfl, rfl, Nat.le_of_ble_eq_true rfl, Nat.le_of_ble_eq_true rfl⟩ ⟨Nat.le_of_ble_eq_true rfl, Nat.le_of_ble_eq_true rfl⟩ d_Ed_rescan_4 (fun z_4 hz_4 => ?_)
  subst hz_4
  refine z_as (z := (n2:Int)) (by omega) ?_
  refine z_istore (lv' := [(4, .int (iI (n2:Int))), (0, .ref (h 0)), (1, .int (iI ((bg (sc a kt t2 n2) i0 : Nat):Int))), (2, .int (iI ((pl + pm : Nat):Int))), (3, .int (iI (re:Int)))]) X d_Ed_rescan_7 hl (by decide) rfl (fun ls hl => ?_)
  refine lv_iload_n X.1 X.2.1 d_Ed_rescan_9 rfl (lv_at hl 2 rfl) ?_
  refine z_istore (lv' := [(5, .int (iI ((bg (sc a kt t2 n2) i0 : Nat):Int))), (4, .int (iI (n2:Int))), (0, .ref (h 0)), (1, .int (iI ((bg (sc a kt t2 n2) i0 : Nat):Int))), (2, .int (iI ((pl + pm : Nat):Int))), (3, .int (iI (re:Int)))]) X d_Ed_rescan_10 hl (by decide) rfl (fun ls hl => ?_)
  refine z_iconst X d_Ed_rescan_12 ?_
  refine z_istore (lv' := [(6, .int (iI 0)), (5, .int (iI ((bg (sc a kt t2 n2) i0 : Nat):Int))), (4, .int (iI (n2:Int))), (0, .ref (h 0)), (1, .int (iI ((bg (sc a kt t2 n2) i0 : Nat):Int))), (2, .int (iI ((pl + pm : Nat):Int))), (3, .int (iI (re:Int)))]) X d_Ed_rescan_13 hl (by decide) rfl (fun ls hl => ?_)
  exact lp 403 i0 i0 402 0 P S L K rd an sz lk kd (by omega) (by omega) (by omega) (by omega) hbe hL0 hR0 (fun u q1 q2 => by omega) (fun u hu => (hpre u hu).1) (Or.inl ⟨rfl, by omega, by omega, fun u hu => (hpre u hu).2, rfl⟩) _ _ ls hw (lv_sub hl [0, 1, 2, 3, 4, 5, 6] rfl)
end
section
/-- an edit that is taken -/
def okE (n : Nat) (zp zo zn : Int) (v : Int64) : Prop := 0 ≤ zn ∧ zn ≤ 16 ∧ aS v zn.toNat ∧ 0 ≤ zp ∧ 0 ≤ zo ∧ zp ≤ n ∧ zo ≤ n - zp ∧ n - zo + zn ≤ 400
/-- what is put in -/
def wv (v : Int64) (m : Nat) : Nat → Int := fun q => nb v (4 * ((m - 1 - q : Nat) : Int))
theorem et_Rg {a kt t : Nat → Int} {n n2 pl po pm : Nat} {v : Int64} (h : Rg a kt t n) (h1 : pl + po ≤ n) (h2 : n2 + po = n + pm) (h3 : n2 ≤ 400) (hv : aS v pm) : Rg a kt (et t pl po pm (wv v pm)) n2 := by
  refine ⟨h.1, h.2.1, fun i hi => ?_, h3⟩
  unfold et
  split
  · exact h.2.2.1 i (by omega)
  · split
    · unfold wv
      have q1 := hv (pm - 1 - (i - pl)) (by omega)
      have q2 := nb_in v (4 * ((pm - 1 - (i - pl) : Nat) : Int))
      omega
    · exact h.2.2.1 _ (by omega)
theorem ed_text {t row1 r w : Nat → Int} {n n2 pl po pm d : Nat} (h1 : pl + po ≤ n) (h2 : n2 + po = n + pm) (h3 : pm ≤ d + po) (ht : ∀ i, i < n → sX row1 pl (pl + d) i = t i) (r1 : ∀ j, j < pl → r j = row1 j) (r2 : ∀ j, pl + (d + po) ≤ j → r j = row1 j) (r3 : ∀ q, q < pm → r (pl + q) = w q) : ∀ i, i < n2 → sX r (pl + pm) (pl + pm + (d + po - pm)) i = et t pl po pm w i := by
  intro i hi
  unfold et
  by_cases q : i < pl
  · rw [if_pos q, ← ht i (by omega)]
    unfold sX
    rw [so_l (by omega), so_l q]
    exact r1 i q
  · rw [if_neg q]
    by_cases q2 : i < pl + pm
    · rw [if_pos q2]
      unfold sX
      rw [so_l q2, ← r3 (i - pl) (by omega)]
      exact congrArg r (by omega)
    · rw [if_neg q2, ← ht (i - pm + po) (by omega)]
      unfold sX
      rw [so_r q2, so_r (by omega), r2 _ (by omega)]
      exact congrArg row1 (by omega)
set_option maxHeartbeats 4000000 in
set_option maxRecDepth 100000 in
/-- an edit that is not taken -/
theorem c_Ed_edit_bad (l : Launch) (D : va_G) (cA : Nat → ClassId) (h : Nat → Nat) (hs : Nat) (gA gK row P S L K : Nat → Int) (yl d cl g : Nat) (rd an ed sz lk kd : Int) (n : Nat) (zp zo zn : Int) (v0 : Int64) (hzp : -2147483648 ≤ zp ∧ zp < 2147483648) (hzo : -2147483648 ≤ zo ∧ zo < 2147483648) (hzn : -2147483648 ≤ zn ∧ zn < 2147483648) (hyd : yl + d ≤ 400) (hnd : n + d = 400) (hbad : ¬ okE n zp zo zn v0) : Met l y_Ed_edit (cW y_Ed_edit b_Ed_edit 11 (some .int)) (rM 1 24) (zP [.ref (h 0), .int (iI zp), .int (iI zo), .long v0, .int (iI zn)] D cA (w_Ed h cA gA gK row (yl:Int) ((yl + d : Nat):Int) P S L K (cl:Int) ((cl + g : Nat):Int) rd an ed sz lk kd) hs) (Qro (fun z => z = -1)) 0 0 (fun _ => False) := by
  refine z_ofW (lv := [(0, .ref (h 0)), (1, .int (iI zp)), (2, .int (iI zo)), (3, .long v0), (5, .int (iI zn))]) (by decide) (Nat.le_of_ble_eq_true rfl) rfl ?_
  intro p e s m below meth c ls hr hlk hnm X hhs hw hl
  have X : Cx p s m ([.ref (h 0), .int (iI zp), .int (iI zo), .long v0, .int (iI zn)] : List Value).toArray c b_Ed_edit 11 R_Ed D cA := X
  refine lv_iload X.1 X.2.1 d_Ed_edit_0 (lv_at hl 4 rfl) ?_
  refine z_if_lt (tgt := 71) X d_Ed_edit_2 (by decide) (by omega) (fun c_2 => ?_) (fun c_2 => ?_)
  · refine z_iconst X d_Ed_edit_71 ?_
    exact z_iretR X hr hlk rfl rfl d_Ed_edit_72
  · refine lv_iload X.1 X.2.1 d_Ed_edit_5 (lv_at hl 4 rfl) ?_
    refine z_bipush X d_Ed_edit_7 (by decide) ?_
    refine z_icmp_gt (tgt := 71) X d_Ed_edit_9 (by decide) (by omega) (by omega) (fun c_9 => ?_) (fun c_9 => ?_)
    · refine z_iconst X d_Ed_edit_71 ?_
      exact z_iretR X hr hlk rfl rfl d_Ed_edit_72
    · obtain ⟨k0, rfl⟩ : ∃ k0 : Nat, zn = (k0:Int) := ⟨zn.toNat, by omega⟩
      refine lv_lload_n X.1 X.2.1 d_Ed_edit_12 rfl (lv_at hl 3 rfl) ?_
      refine lv_iload X.1 X.2.1 d_Ed_edit_13 (lv_at hl 4 rfl) ?_
      refine z_callRS (rest := []) X hw v_Ed_66 [.long v0, .int (iI (k0:Int))] (c_Ed_areSymbols l D cA _ v0 k0 (by omega)) rfl hl.1 rfl (Nat.le_of_ble_eq_true rfl) ⟨rfl, rfl, Nat.le_of_ble_eq_true rfl, Nat.le_of_ble_eq_true rfl⟩ ⟨Nat.le_of_ble_eq_true rfl, Nat.le_of_ble_eq_true rfl⟩ d_Ed_edit_15 (fun z_15 hz_15 => ?_)
      refine z_if_eq (tgt := 71) X d_Ed_edit_18 (by decide) (by rcases hz_15 with ⟨q, _⟩ | ⟨q, _⟩ <;> omega) (fun c_18 => ?_) (fun c_18 => ?_)
      · refine z_iconst X d_Ed_edit_71 ?_
        exact z_iretR X hr hlk rfl rfl d_Ed_edit_72
      · refine lv_iload_n X.1 X.2.1 d_Ed_edit_21 rfl (lv_at hl 1 rfl) ?_
        refine z_if_lt (tgt := 71) X d_Ed_edit_22 (by decide) (by omega) (fun c_22 => ?_) (fun c_22 => ?_)
        · refine z_iconst X d_Ed_edit_71 ?_
          exact z_iretR X hr hlk rfl rfl d_Ed_edit_72
        · refine lv_iload_n X.1 X.2.1 d_Ed_edit_25 rfl (lv_at hl 2 rfl) ?_
          refine z_if_lt (tgt := 71) X d_Ed_edit_26 (by decide) (by omega) (fun c_26 => ?_) (fun c_26 => ?_)
          · refine z_iconst X d_Ed_edit_71 ?_
            exact z_iretR X hr hlk rfl rfl d_Ed_edit_72
          · refine lv_iload_n X.1 X.2.1 d_Ed_edit_29 rfl (lv_at hl 1 rfl) ?_
            refine lv_aload_n X.1 X.2.1 d_Ed_edit_30 rfl (lv_at hl 0 rfl) ?_
            refine z_get X hw k_Ed 0 rfl 1 (by decide) rfl m_fl_Ed_19 rfl d_Ed_edit_31 ?_
            refine z_callR (rest := [.int (iI zp)]) X hw k_Sy v_Ed_34 [] (c_Sy_size l D cA h _ (yl:Int) ((yl + d : Nat):Int)) 4 rfl [4] rfl rfl rfl rfl hl.1 rfl (Nat.le_of_ble_eq_true rfl) ⟨rfl, rfl, Nat.le_of_ble_eq_true rfl, Nat.le_of_ble_eq_true rfl⟩ ⟨Nat.le_of_ble_eq_true rfl, Nat.le_of_ble_eq_true rfl⟩ d_Ed_edit_34 (fun z_34 hz_34 => ?_)
            subst hz_34
            refine z_as (z := (n:Int)) (by omega) ?_
            refine z_icmp_gt (tgt := 71) X d_Ed_edit_37 (by decide) (by omega) (by omega) (fun c_37 => ?_) (fun c_37 => ?_)
            · refine z_iconst X d_Ed_edit_71 ?_
              exact z_iretR X hr hlk rfl rfl d_Ed_edit_72
            · refine lv_iload_n X.1 X.2.1 d_Ed_edit_40 rfl (lv_at hl 2 rfl) ?_
              refine lv_aload_n X.1 X.2.1 d_Ed_edit_41 rfl (lv_at hl 0 rfl) ?_
              refine z_get X hw k_Ed 0 rfl 1 (by decide) rfl m_fl_Ed_19 rfl d_Ed_edit_42 ?_
              refine z_callR (rest := [.int (iI zo)]) X hw k_Sy v_Ed_34 [] (c_Sy_size l D cA h _ (yl:Int) ((yl + d : Nat):Int)) 4 rfl [4] rfl rfl rfl rfl hl.1 rfl (Nat.le_of_ble_eq_true rfl) ⟨rfl, rfl, Nat.le_of_ble_eq_true rfl, Nat.le_of_ble_eq_true rfl⟩ ⟨Nat.le_of_ble_eq_true rfl, Nat.le_of_ble_eq_true rfl⟩ d_Ed_edit_45 (fun z_45 hz_45 => ?_)
              subst hz_45
              refine z_as (z := (n:Int)) (by omega) ?_
              refine lv_iload_n X.1 X.2.1 d_Ed_edit_48 rfl (lv_at hl 1 rfl) ?_
              refine z_isub (r := ((n:Int) - zp)) X d_Ed_edit_49 rfl ?_
              refine z_icmp_gt (tgt := 71) X d_Ed_edit_50 (by decide) (by omega) (by omega) (fun c_50 => ?_) (fun c_50 => ?_)
              · refine z_iconst X d_Ed_edit_71 ?_
                exact z_iretR X hr hlk rfl rfl d_Ed_edit_72
              · refine lv_aload_n X.1 X.2.1 d_Ed_edit_53 rfl (lv_at hl 0 rfl) ?_
                refine z_get X hw k_Ed 0 rfl 1 (by decide) rfl m_fl_Ed_19 rfl d_Ed_edit_54 ?_
                refine z_callR (rest := []) X hw k_Sy v_Ed_34 [] (c_Sy_size l D cA h _ (yl:Int) ((yl + d : Nat):Int)) 4 rfl [4] rfl rfl rfl rfl hl.1 rfl (Nat.le_of_ble_eq_true rfl) ⟨rfl, rfl, Nat.le_of_ble_eq_true rfl, Nat.le_of_ble_eq_true rfl⟩ ⟨Nat.le_of_ble_eq_true rfl, Nat.le_of_ble_eq_true rfl⟩ d_Ed_edit_57 (fun z_57 hz_57 => ?_)
                subst hz_57
                refine z_as (z := (n:Int)) (by omega) ?_
                refine lv_iload_n X.1 X.2.1 d_Ed_edit_60 rfl (lv_at hl 2 rfl) ?_
                refine z_isub (r := ((n:Int) - zo)) X d_Ed_edit_61 rfl ?_
                refine lv_iload X.1 X.2.1 d_Ed_edit_62 (lv_at hl 4 rfl) ?_
                refine z_iadd (r := (((n:Int) - zo) + (k0:Int))) X d_Ed_edit_64 rfl ?_
                refine z_sipush X d_Ed_edit_65 (by decide) ?_
                refine z_icmp_le (tgt := 73) X d_Ed_edit_68 (by decide) (by omega) (by omega) (fun c_68 => ?_) (fun c_68 => ?_)
                · exact absurd ⟨by omega, by omega, by rw [Int.toNat_natCast]; exact hz_15.elim (fun q => q.2) (fun q => absurd q.1 c_18), by omega, by omega, by omega, by omega, by omega⟩ hbad
                · refine z_iconst X d_Ed_edit_71 ?_
                  exact z_iretR X hr hlk rfl rfl d_Ed_edit_72
set_option maxHeartbeats 4000000 in
set_option maxRecDepth 100000 in
/-- an edit that is taken -/
theorem c_Ed_edit_good (l : Launch) (D : va_G) (cA : Nat → ClassId) (h : Nat → Nat) (hs : Nat) (a kt t : Nat → Int) (n cn : Nat) (gA gK row P S L K : Nat → Int) (yl d cl g : Nat) (rd an ed sz lk kd : Int) (hI : CI a kt t n cn gA gK row P S L K yl d cl g) (t2 : Nat → Int) (n2 pl po pm : Nat) (v0 : Int64) (stop : Nat → Bool) (hpm : pm ≤ 16) (haS : aS v0 pm) (hpo : pl + po ≤ n) (hn2 : n2 + po = n + pm) (hn24 : n2 ≤ 400) (ht2 : t2 = et t pl po pm (wv v0 pm)) (hSt : St (sc a kt t n) cn pl po pm stop) : Met l y_Ed_edit (cW y_Ed_edit b_Ed_edit 11 (some .int)) (rM 4 90) (zP [.ref (h 0), .int (iI (pl:Int)), .int (iI (po:Int)), .long v0, .int (iI (pm:Int))] D cA (w_Ed h cA gA gK row (yl:Int) ((yl + d : Nat):Int) P S L K (cl:Int) ((cl + g : Nat):Int) rd an ed sz lk kd) hs) (zQi (fun (z : Int) (u : (Nat → Int) × Nat × Nat × (Nat → Int) × (Nat → Int) × (Nat → Int) × (Nat → Int) × Nat × Nat × Nat × Int × Int × Int × Int × Int) => z = u.2.2.2.2.2.2.2.2.2.2.1 ∧ CI a kt t2 n2 u.2.2.2.2.2.2.2.2.2.1 gA gK u.1 u.2.2.2.1 u.2.2.2.2.1 u.2.2.2.2.2.1 u.2.2.2.2.2.2.1 u.2.1 u.2.2.1 u.2.2.2.2.2.2.2.1 u.2.2.2.2.2.2.2.2.1 ∧ EdR (sc a kt t n) (sc a kt t2 n2) n2 cn pl stop (u.2.2.2.2.2.2.2.2.2.2.1, u.2.2.2.2.2.2.2.2.2.2.2.1)) (fun u => (w_Ed h cA gA gK u.1 (u.2.1:Int) ((u.2.1 + u.2.2.1 : Nat):Int) u.2.2.2.1 u.2.2.2.2.1 u.2.2.2.2.2.1 u.2.2.2.2.2.2.1 (u.2.2.2.2.2.2.2.1:Int) ((u.2.2.2.2.2.2.2.1 + u.2.2.2.2.2.2.2.2.1 : Nat):Int) u.2.2.2.2.2.2.2.2.2.2.1 u.2.2.2.2.2.2.2.2.2.2.2.1 (ed + 1) u.2.2.2.2.2.2.2.2.2.2.2.2.1 u.2.2.2.2.2.2.2.2.2.2.2.2.2.1 u.2.2.2.2.2.2.2.2.2.2.2.2.2.2)) D (w_Ed h cA gA gK row (yl:Int) ((yl + d : Nat):Int) P S L K (cl:Int) ((cl + g : Nat):Int) rd an ed sz lk kd) hs) 0 0 (va_A (w_Ed h cA gA gK row (yl:Int) ((yl + d : Nat):Int) P S L K (cl:Int) ((cl + g : Nat):Int) rd an ed sz lk kd) hs) := by
  refine z_ofW (lv := [(0, .ref (h 0)), (1, .int (iI (pl:Int))), (2, .int (iI (po:Int))), (3, .long v0), (5, .int (iI (pm:Int)))]) (by decide) (Nat.le_of_ble_eq_true rfl) rfl ?_
  intro p e s m below meth c ls hr hlk hnm X hhs hw hl
  have X : Cx p s m ([.ref (h 0), .int (iI (pl:Int)), .int (iI (po:Int)), .long v0, .int (iI (pm:Int))] : List Value).toArray c b_Ed_edit 11 R_Ed D cA := X
  obtain ⟨hRg, hgA, hgK, hyd, hnd, htx, hcg, hcn, hC, hit⟩ := hI
  have hn4 := hRg.2.2.2
  have hcle := IsC_le hC
  have hg1 := sc_GF hRg
  have hRg2 : Rg a kt t2 n2 := by rw [ht2]; exact et_Rg hRg hpo hn2 hn24 haS
  have hER : ER (sc a kt t n) (sc a kt t2 n2) n n2 pl po pm := by rw [ht2]; exact et_ER hpo hn2
  have hpd : pm ≤ d + po := by omega
  have hB : ∀ j, j < cn → bg (sc a kt t n) j < n := fun j hj => hC.1 j hj
  have hFb : ∀ j, j < cn → ((sc a kt t n) (bg (sc a kt t n) j)).2.1 < ((sc a kt t n) (bg (sc a kt t n) j)).1 ∧ bg (sc a kt t n) j + ((sc a kt t n) (bg (sc a kt t n) j)).1 ≤ n + 1 ∧ -1 ≤ ((sc a kt t n) (bg (sc a kt t n) j)).2.2 ∧ ((sc a kt t n) (bg (sc a kt t n) j)).2.2 < 100 := fun j hj => by
    have q := hg1 _ (hB j hj)
    omega
  have K189 : ∀ (i : Nat) (b x : Int), IsF (sc a kt t n) pl cn i → (b = 1 ∧ i = cn ∧ 0 < cn ∨ b = 0 ∧ ¬ (i = cn ∧ 0 < cn)) → (b = 0 → x = ((bg (sc a kt t2 n2) i : Nat):Int)) → ∀ (ls : Array Slot), lv_has ls 11 [(9, .int (iI x)), (8, .int (iI b)), (7, .int (iI (i:Int))), (6, .int (iI (n:Int))), (0, .ref (h 0)), (1, .int (iI (pl:Int))), (2, .int (iI (po:Int))), (3, .long v0), (5, .int (iI (pm:Int)))] → W p l e (rM 4 90) s m ([.ref (h 0), .int (iI (pl:Int)), .int (iI (po:Int)), .long v0, .int (iI (pm:Int))] : List Value).toArray below meth c s.heap [] 0 0 (MQ below (zQi (fun (z : Int) (u : (Nat → Int) × Nat × Nat × (Nat → Int) × (Nat → Int) × (Nat → Int) × (Nat → Int) × Nat × Nat × Nat × Int × Int × Int × Int × Int) => z = u.2.2.2.2.2.2.2.2.2.2.1 ∧ CI a kt t2 n2 u.2.2.2.2.2.2.2.2.2.1 gA gK u.1 u.2.2.2.1 u.2.2.2.2.1 u.2.2.2.2.2.1 u.2.2.2.2.2.2.1 u.2.1 u.2.2.1 u.2.2.2.2.2.2.2.1 u.2.2.2.2.2.2.2.2.1 ∧ EdR (sc a kt t n) (sc a kt t2 n2) n2 cn pl stop (u.2.2.2.2.2.2.2.2.2.2.1, u.2.2.2.2.2.2.2.2.2.2.2.1)) (fun u => (w_Ed h cA gA gK u.1 (u.2.1:Int) ((u.2.1 + u.2.2.1 : Nat):Int) u.2.2.2.1 u.2.2.2.2.1 u.2.2.2.2.2.1 u.2.2.2.2.2.2.1 (u.2.2.2.2.2.2.2.1:Int) ((u.2.2.2.2.2.2.2.1 + u.2.2.2.2.2.2.2.2.1 : Nat):Int) u.2.2.2.2.2.2.2.2.2.2.1 u.2.2.2.2.2.2.2.2.2.2.2.1 (ed + 1) u.2.2.2.2.2.2.2.2.2.2.2.2.1 u.2.2.2.2.2.2.2.2.2.2.2.2.2.1 u.2.2.2.2.2.2.2.2.2.2.2.2.2.2)) D (w_Ed h cA gA gK row (yl:Int) ((yl + d : Nat):Int) P S L K (cl:Int) ((cl + g : Nat):Int) rd an ed sz lk kd) hs) ([.ref (h 0), .int (iI (pl:Int)), .int (iI (po:Int)), .long v0, .int (iI (pm:Int))] : List Value).toArray s 0 0 (va_A (w_Ed h cA gA gK row (yl:Int) ((yl + d : Nat):Int) P S L K (cl:Int) ((cl + g : Nat):Int) rd an ed sz lk kd) hs)) (F0 m 189 ls []) := by
    intro i b x hF hb hx ls hl
    have hFc := hF.1
    refine lv_aload_n X.1 X.2.1 d_Ed_edit_189 rfl (lv_at hl 4 rfl) ?_
    refine z_get X hw k_Ed 0 rfl 2 (by decide) rfl m_fl_Ed_26 rfl d_Ed_edit_190 ?_
    refine lv_iload X.1 X.2.1 d_Ed_edit_193 (lv_at hl 2 rfl) ?_
    refine lv_iload X.1 X.2.1 d_Ed_edit_195 (lv_at hl 3 rfl) ?_
    refine z_afterV (w2 := fun u => (w_Ed h cA gA gK row (yl:Int) ((yl + d : Nat):Int) u.1 u.2.1 u.2.2.1 u.2.2.2 (i:Int) ((i + g : Nat):Int) rd an ed sz lk kd)) (wr := [(h 0, .inr (3, [.ref (h 1), .ref (h 4), .ref (h 6), .int (iI rd), .int (iI an), .int (iI ed), .int (iI sz), .int (iI lk), .int (iI kd)])), (h 1, .inr (0, [.ref (h 2), .ref (h 3)])), (h 2, .inl (cA 0, 200, .inl (zf gA))), (h 3, .inl (cA 0, 20, .inl (zf gK))), (h 4, .inr (1, [.ref (h 5), .int (iI (yl:Int)), .int (iI ((yl + d : Nat):Int))])), (h 5, .inl (cA 0, 400, .inl (zf row)))]) hw (z_runV (rest := []) X hw k_Sn v_Ed_81 [.int (iI (i:Int)), .int (iI (n:Int))] (c_Sn_go l D cA h _ P S L K cl g i (n:Int) (by omega) (by omega) (fun j hj => by have q1 := (hit j (by omega)).2.1; have q2 := hFb j (by omega); omega) (fun j hj => by have q1 := (hit j (by omega)).2.2.1; have q2 := hFb j (by omega); omega) (fun j hj => by have q1 := (hit j (by omega)).2.2.2; have q2 := hFb j (by omega); omega)) 6 rfl [6, 7, 8, 9, 10] rfl rfl rfl rfl hl.1 rfl (Nat.le_of_ble_eq_true rfl) ⟨rfl, rfl, Nat.le_of_ble_eq_true rfl, Nat.le_of_ble_eq_true rfl⟩ ⟨Nat.le_of_ble_eq_true rfl, Nat.le_of_ble_eq_true rfl⟩ d_Ed_edit_197) [6, 7, 8, 9, 10] [0, 1, 2, 3, 4, 5] [0, 1, 2, 3, 4, 5, 6, 7, 8, 9, 10] rfl rfl rfl (by decide) rfl (fun _ => rfl) (fun _ => rfl) (fun u_197 H locs hu_197 hw => ?_)
    obtain ⟨p1, s1, l1, k1⟩ := u_197
    obtain ⟨hp1, hs1, hl1, hk1⟩ := hu_197
    dsimp only at hp1 hs1 hl1 hk1 hw
    have hL1 : ∀ u, u < i → It (sc a kt t n) (bg (sc a kt t n) u) ((bg (sc a kt t n) u : Nat):Int) p1 s1 l1 k1 u := fun u hu => by
      have q := hit u (by omega)
      rw [← hp1, ← hs1, ← hl1, ← hk1] at q
      unfold sP sX at q
      rw [if_pos hu, so_l hu] at q
      exact q
    have hR1 : ∀ u, i ≤ u → u < cn → It (sc a kt t n) (bg (sc a kt t n) u) ((n : Int) - (bg (sc a kt t n) u : Nat)) p1 s1 l1 k1 (u + g) := fun u hu hu2 => by
      have q := hit u hu2
      rw [← hp1, ← hs1, ← hl1, ← hk1] at q
      unfold sP sX at q
      rw [if_neg (by omega), so_r (by omega), show u - i + (i + g) = u + g by omega] at q
      exact ⟨by omega, q.2.1, q.2.2.1, q.2.2.2⟩
    refine lv_aload_n X.1 X.2.1 d_Ed_edit_200 rfl (lv_at hl 4 rfl) ?_
    refine z_get X hw k_Ed 0 rfl 1 (by decide) rfl m_fl_Ed_19 rfl d_Ed_edit_201 ?_
    refine lv_iload_n X.1 X.2.1 d_Ed_edit_204 rfl (lv_at hl 5 rfl) ?_
    refine z_afterV (w2 := fun u => (w_Ed h cA gA gK u (pl:Int) ((pl + d : Nat):Int) p1 s1 l1 k1 (i:Int) ((i + g : Nat):Int) rd an ed sz lk kd)) (wr := [(h 0, .inr (3, [.ref (h 1), .ref (h 4), .ref (h 6), .int (iI rd), .int (iI an), .int (iI ed), .int (iI sz), .int (iI lk), .int (iI kd)])), (h 1, .inr (0, [.ref (h 2), .ref (h 3)])), (h 2, .inl (cA 0, 200, .inl (zf gA))), (h 3, .inl (cA 0, 20, .inl (zf gK))), (h 6, .inr (2, [.ref (h 7), .ref (h 8), .ref (h 9), .ref (h 10), .int (iI (i:Int)), .int (iI ((i + g : Nat):Int))])), (h 7, .inl (cA 1, 401, .inl (zf p1))), (h 8, .inl (cA 2, 401, .inl (zf s1))), (h 9, .inl (cA 2, 401, .inl (zf l1))), (h 10, .inl (cA 0, 401, .inl (zf k1)))]) hw (z_runV (rest := []) X hw k_Sy v_Ed_85 [.int (iI (pl:Int))] (c_Sy_go l D cA h _ row yl d pl (by omega) (by omega) (fun j hj => by have q := hRg.2.2.1 j (by omega); rw [htx j (by omega)]; omega)) 4 rfl [4, 5] rfl rfl rfl rfl hl.1 rfl (Nat.le_of_ble_eq_true rfl) ⟨rfl, rfl, Nat.le_of_ble_eq_true rfl, Nat.le_of_ble_eq_true rfl⟩ ⟨Nat.le_of_ble_eq_true rfl, Nat.le_of_ble_eq_true rfl⟩ d_Ed_edit_205) [4, 5] [0, 1, 2, 3, 6, 7, 8, 9, 10] [0, 1, 2, 3, 9, 10, 4, 5, 6, 7, 8] rfl rfl rfl (by decide) rfl (fun _ => rfl) (fun _ => rfl) (fun u_205 H locs hu_205 hw => ?_)
    have htx1 : ∀ i, i < n → sX u_205 pl (pl + d) i = t i := fun i hi => (hu_205 i).trans (htx i hi)
    refine lv_aload_n X.1 X.2.1 d_Ed_edit_208 rfl (lv_at hl 4 rfl) ?_
    refine z_get X hw k_Ed 0 rfl 1 (by decide) rfl m_fl_Ed_19 rfl d_Ed_edit_209 ?_
    refine lv_dup X.1 X.2.1 d_Ed_edit_212 rfl ?_
    refine z_getN X hw k_Sy 4 rfl 2 (by decide) rfl (f_Ed_88 X.2.2.2.2.2.2) rfl d_Ed_edit_213 ?_
    refine lv_iload_n X.1 X.2.1 d_Ed_edit_216 rfl (lv_at hl 6 rfl) ?_
    refine z_iadd (r := ((pl + (d + po) : Nat):Int)) X d_Ed_edit_217 (by omega) ?_
    refine z_putN (ws' := (w_Ed h cA gA gK u_205 (pl:Int) ((pl + (d + po) : Nat):Int) p1 s1 l1 k1 (i:Int) ((i + g : Nat):Int) rd an ed sz lk kd)) X hw k_Sy 4 rfl 2 (by decide) rfl rfl (Nat.le_of_ble_eq_true rfl) (f_Ed_88 X.2.2.2.2.2.2) rfl d_Ed_edit_218 rfl (fun H locs hw => ?_)
    refine lv_iload X.1 X.2.1 d_Ed_edit_221 (lv_at hl 8 rfl) ?_
    refine z_iconst X d_Ed_edit_223 ?_
    refine z_isub (r := ((pm:Int) - 1)) X d_Ed_edit_224 rfl ?_
    refine z_istore (lv' := [(10, .int (iI ((pm:Int) - 1))), (9, .int (iI x)), (8, .int (iI b)), (7, .int (iI (i:Int))), (6, .int (iI (n:Int))), (0, .ref (h 0)), (1, .int (iI (pl:Int))), (2, .int (iI (po:Int))), (3, .long v0), (5, .int (iI (pm:Int)))]) X d_Ed_edit_225 hl (by decide) rfl (fun ls hl => ?_)
    have lp : ∀ (f : Nat) (w : Nat) (r : Nat → Int), w ≤ pm → pm < f + w → (∀ j, j < pl → r j = u_205 j) → (∀ j, pl + (d + po) ≤ j → r j = u_205 j) → (∀ q, q < w → r (pl + q) = wv v0 pm q) → ∀ (H : Heap) (locs : List Loc) (ls : Array Slot), Wd D (va_A (w_Ed h cA gA gK row (yl:Int) ((yl + d : Nat):Int) P S L K (cl:Int) ((cl + g : Nat):Int) rd an ed sz lk kd) hs) s.heap (w_Ed h cA gA gK r ((pl + w : Nat):Int) ((pl + (d + po) : Nat):Int) p1 s1 l1 k1 (i:Int) ((i + g : Nat):Int) rd an ed sz lk kd) H locs → lv_has ls 11 [(10, .int (iI ((pm:Int) - 1 - (w:Int)))), (9, .int (iI x)), (8, .int (iI b)), (7, .int (iI (i:Int))), (6, .int (iI (n:Int))), (0, .ref (h 0)), (1, .int (iI (pl:Int))), (2, .int (iI (po:Int))), (3, .long v0), (5, .int (iI (pm:Int)))] → W p l e (rM 4 90) s m ([.ref (h 0), .int (iI (pl:Int)), .int (iI (po:Int)), .long v0, .int (iI (pm:Int))] : List Value).toArray below meth c H locs 0 0 (MQ below (zQi (fun (z : Int) (u : (Nat → Int) × Nat × Nat × (Nat → Int) × (Nat → Int) × (Nat → Int) × (Nat → Int) × Nat × Nat × Nat × Int × Int × Int × Int × Int) => z = u.2.2.2.2.2.2.2.2.2.2.1 ∧ CI a kt t2 n2 u.2.2.2.2.2.2.2.2.2.1 gA gK u.1 u.2.2.2.1 u.2.2.2.2.1 u.2.2.2.2.2.1 u.2.2.2.2.2.2.1 u.2.1 u.2.2.1 u.2.2.2.2.2.2.2.1 u.2.2.2.2.2.2.2.2.1 ∧ EdR (sc a kt t n) (sc a kt t2 n2) n2 cn pl stop (u.2.2.2.2.2.2.2.2.2.2.1, u.2.2.2.2.2.2.2.2.2.2.2.1)) (fun u => (w_Ed h cA gA gK u.1 (u.2.1:Int) ((u.2.1 + u.2.2.1 : Nat):Int) u.2.2.2.1 u.2.2.2.2.1 u.2.2.2.2.2.1 u.2.2.2.2.2.2.1 (u.2.2.2.2.2.2.2.1:Int) ((u.2.2.2.2.2.2.2.1 + u.2.2.2.2.2.2.2.2.1 : Nat):Int) u.2.2.2.2.2.2.2.2.2.2.1 u.2.2.2.2.2.2.2.2.2.2.2.1 (ed + 1) u.2.2.2.2.2.2.2.2.2.2.2.2.1 u.2.2.2.2.2.2.2.2.2.2.2.2.2.1 u.2.2.2.2.2.2.2.2.2.2.2.2.2.2)) D (w_Ed h cA gA gK row (yl:Int) ((yl + d : Nat):Int) P S L K (cl:Int) ((cl + g : Nat):Int) rd an ed sz lk kd) hs) ([.ref (h 0), .int (iI (pl:Int)), .int (iI (po:Int)), .long v0, .int (iI (pm:Int))] : List Value).toArray s 0 0 (va_A (w_Ed h cA gA gK row (yl:Int) ((yl + d : Nat):Int) P S L K (cl:Int) ((cl + g : Nat):Int) rd an ed sz lk kd) hs)) (F0 m 227 ls []) := by
      intro f
      induction f with
      | zero =>
        intro w r hwm hf hr1 hr2 hr3 H locs ls hw hl
        exfalso; omega
      | succ f ih =>
        intro w r hwm hf hr1 hr2 hr3 H locs ls hw hl
        refine lv_iload X.1 X.2.1 d_Ed_edit_227 (lv_at hl 0 rfl) ?_
        refine z_if_lt (tgt := 256) X d_Ed_edit_229 (by decide) (by omega) (fun c_229 => ?_) (fun c_229 => ?_)
        · obtain rfl : w = pm := by omega
          have ed0 : pl + (d + po) = pl + w + (d + po - w) := by omega
          have htx2 : ∀ i, i < n2 → sX r (pl + w) (pl + w + (d + po - w)) i = t2 i := by
            rw [ht2]
            exact ed_text hpo hn2 hpd htx1 hr1 hr2 hr3
          rw [ed0] at hw
          refine lv_aload_n X.1 X.2.1 d_Ed_edit_256 rfl (lv_at hl 5 rfl) ?_
          refine z_iconst X d_Ed_edit_257 ?_
          refine z_put (ws' := (w_Ed h cA gA gK r ((pl + w : Nat):Int) ((pl + w + (d + po - w) : Nat):Int) p1 s1 l1 k1 (i:Int) ((i + g : Nat):Int) 0 an ed sz lk kd)) X hw k_Ed 0 rfl 3 (by decide) rfl rfl (Nat.le_of_ble_eq_true rfl) m_fl_Ed_94 rfl d_Ed_edit_258 rfl (fun H locs hw => ?_)
          refine lv_aload_n X.1 X.2.1 d_Ed_edit_261 rfl (lv_at hl 5 rfl) ?_
          refine z_iconst X d_Ed_edit_262 ?_
          refine z_put (ws' := (w_Ed h cA gA gK r ((pl + w : Nat):Int) ((pl + w + (d + po - w) : Nat):Int) p1 s1 l1 k1 (i:Int) ((i + g : Nat):Int) 0 0 ed sz lk kd)) X hw k_Ed 0 rfl 4 (by decide) rfl rfl (Nat.le_of_ble_eq_true rfl) m_fl_Ed_97 rfl d_Ed_edit_263 rfl (fun H locs hw => ?_)
          refine lv_iload X.1 X.2.1 d_Ed_edit_266 (lv_at hl 2 rfl) ?_
          refine z_if_ne (tgt := 287) X d_Ed_edit_268 (by decide) (by omega) (fun c_268 => ?_) (fun c_268 => ?_)
          · refine lv_aload_n X.1 X.2.1 d_Ed_edit_287 rfl (lv_at hl 5 rfl) ?_
            refine lv_dup X.1 X.2.1 d_Ed_edit_288 rfl ?_
            refine z_get X hw k_Ed 0 rfl 5 (by decide) rfl m_fl_Ed_104 rfl d_Ed_edit_289 ?_
            refine z_iconst X d_Ed_edit_292 ?_
            refine z_iadd (r := (ed + 1)) X d_Ed_edit_293 rfl ?_
            refine z_put (ws' := (w_Ed h cA gA gK r ((pl + w : Nat):Int) ((pl + w + (d + po - w) : Nat):Int) p1 s1 l1 k1 (i:Int) ((i + g : Nat):Int) 0 0 (ed + 1) sz lk kd)) X hw k_Ed 0 rfl 5 (by decide) rfl rfl (Nat.le_of_ble_eq_true rfl) m_fl_Ed_104 rfl d_Ed_edit_294 rfl (fun H locs hw => ?_)
            refine lv_aload_n X.1 X.2.1 d_Ed_edit_297 rfl (lv_at hl 5 rfl) ?_
            refine z_get X hw k_Ed 0 rfl 3 (by decide) rfl m_fl_Ed_94 rfl d_Ed_edit_298 ?_
            rcases hb with ⟨hb0, hic, hc0⟩ | ⟨hb0, _⟩
            · subst hic
              have hsm := IsC_same hg1 hER hC hc0 hF.2.1
              have hbs := bg_same hER hF.2.1
              have hci : CI a kt t2 n2 i gA gK r p1 s1 l1 k1 (pl + w) (d + po - w) i g := by
                refine ⟨hRg2, hgA, hgK, by omega, by omega, htx2, by omega, hcn, hsm.1, fun u hu => ?_⟩
                obtain ⟨q1, q2, q3, q4⟩ := hL1 u hu
                unfold sP sX
                rw [if_pos hu, so_l hu, hsm.2 u hu, hbs u (by omega)]
                exact ⟨q1, q2, q3, q4⟩
              exact z_iret X hr hlk rfl (r, pl + w, d + po - w, p1, s1, l1, k1, i, g, i, 0, 0, sz, lk, kd) ⟨rfl, hci, i, hF, Or.inl ⟨rfl, hc0, rfl⟩⟩ hw d_Ed_edit_301
            · exact absurd hb0 c_268
          · obtain ⟨hb0, hns⟩ : b = 0 ∧ ¬ (i = cn ∧ 0 < cn) := by
              rcases hb with ⟨q, _⟩ | q
              · omega
              · exact q
            obtain rfl := hx hb0
            have hbs := bg_same hER hF.2.1
            refine lv_aload_n X.1 X.2.1 d_Ed_edit_271 rfl (lv_at hl 5 rfl) ?_
            refine lv_iload X.1 X.2.1 d_Ed_edit_272 (lv_at hl 1 rfl) ?_
            refine lv_iload_n X.1 X.2.1 d_Ed_edit_274 rfl (lv_at hl 6 rfl) ?_
            refine lv_iload X.1 X.2.1 d_Ed_edit_275 (lv_at hl 9 rfl) ?_
            refine z_iadd (r := ((pl + w : Nat):Int)) X d_Ed_edit_277 (by omega) ?_
            refine lv_iload X.1 X.2.1 d_Ed_edit_278 (lv_at hl 4 rfl) ?_
            refine lv_iload_n X.1 X.2.1 d_Ed_edit_280 rfl (lv_at hl 6 rfl) ?_
            refine z_isub (r := ((n:Int) - (pl:Int))) X d_Ed_edit_281 rfl ?_
            refine lv_iload_n X.1 X.2.1 d_Ed_edit_282 rfl (lv_at hl 7 rfl) ?_
            refine z_isub (r := ((n - pl - po : Nat):Int)) X d_Ed_edit_283 (by omega) ?_
            have hL2 : ∀ u, u < i → It (sc a kt t2 n2) (bg (sc a kt t2 n2) u) ((bg (sc a kt t2 n2) u : Nat):Int) p1 s1 l1 k1 u := fun u hu => by
              have q := hL1 u hu
              have e1 := hER.2.2.1 _ (hF.2.1 u hu)
              rw [hbs u (by omega)]
              unfold It at q ⊢
              rw [e1]
              exact q
            refine z_afterV (w2 := fun u => (w_Ed h cA gA gK r ((pl + w : Nat):Int) ((pl + w + (d + po - w) : Nat):Int) u.1 u.2.1 u.2.2.1 u.2.2.2.1 (u.2.2.2.2.1:Int) ((u.2.2.2.2.1 + u.2.2.2.2.2.1 : Nat):Int) u.2.2.2.2.2.2.2.1 u.2.2.2.2.2.2.2.2.1 ed u.2.2.2.2.2.2.2.2.2.1 u.2.2.2.2.2.2.2.2.2.2.1 u.2.2.2.2.2.2.2.2.2.2.2)) (wr := []) hw (z_runV (rest := []) X hw k_Ed v_Ed_100 [.int (iI ((bg (sc a kt t2 n2) i : Nat):Int)), .int (iI ((pl + w : Nat):Int)), .int (iI ((n - pl - po : Nat):Int))] (c_Ed_rescan l D cA h _ a kt t t2 n n2 cn pl po w (n - pl - po) stop gA gK r p1 s1 l1 k1 (pl + w) (d + po - w) i g 0 0 ed sz lk kd hRg hRg2 hgA hgK (by omega) (by omega) htx2 hER hC hF hns hSt hcn (by omega) hL2 hR1) 0 rfl [0, 1, 2, 3, 4, 5, 6, 7, 8, 9, 10] rfl rfl rfl rfl hl.1 rfl (Nat.le_of_ble_eq_true rfl) ⟨rfl, rfl, Nat.le_of_ble_eq_true rfl, Nat.le_of_ble_eq_true rfl⟩ ⟨Nat.le_of_ble_eq_true rfl, Nat.le_of_ble_eq_true rfl⟩ d_Ed_edit_284) [0, 1, 2, 3, 4, 5, 6, 7, 8, 9, 10] [] [0, 1, 2, 3, 4, 5, 6, 7, 8, 9, 10] rfl rfl rfl (by decide) rfl (fun _ => rfl) (fun _ => rfl) (fun u_284 H locs hu_284 hw => ?_)
            obtain ⟨q1, q2, q3, q4, q5, q6, q7, q8, q9, y1, y2, y3⟩ := u_284
            dsimp only at hu_284 hw
            refine lv_aload_n X.1 X.2.1 d_Ed_edit_287 rfl (lv_at hl 5 rfl) ?_
            refine lv_dup X.1 X.2.1 d_Ed_edit_288 rfl ?_
            refine z_get X hw k_Ed 0 rfl 5 (by decide) rfl m_fl_Ed_104 rfl d_Ed_edit_289 ?_
            refine z_iconst X d_Ed_edit_292 ?_
            refine z_iadd (r := (ed + 1)) X d_Ed_edit_293 rfl ?_
            refine z_put (ws' := (w_Ed h cA gA gK r ((pl + w : Nat):Int) ((pl + w + (d + po - w) : Nat):Int) q1 q2 q3 q4 (q5:Int) ((q5 + q6 : Nat):Int) q8 q9 (ed + 1) y1 y2 y3)) X hw k_Ed 0 rfl 5 (by decide) rfl rfl (Nat.le_of_ble_eq_true rfl) m_fl_Ed_104 rfl d_Ed_edit_294 rfl (fun H locs hw => ?_)
            refine lv_aload_n X.1 X.2.1 d_Ed_edit_297 rfl (lv_at hl 5 rfl) ?_
            refine z_get X hw k_Ed 0 rfl 3 (by decide) rfl m_fl_Ed_94 rfl d_Ed_edit_298 ?_
            have hci : CI a kt t2 n2 q7 gA gK r q1 q2 q3 q4 (pl + w) (d + po - w) q5 q6 := ⟨hRg2, hgA, hgK, by omega, by omega, htx2, hu_284.1⟩
            exact z_iret X hr hlk rfl (r, pl + w, d + po - w, q1, q2, q3, q4, q5, q6, q7, q8, q9, y1, y2, y3) ⟨rfl, hci, i, hF, Or.inr ⟨hns, hu_284.2⟩⟩ hw d_Ed_edit_301
        · refine lv_aload_n X.1 X.2.1 d_Ed_edit_232 rfl (lv_at hl 5 rfl) ?_
          refine z_get X hw k_Ed 0 rfl 1 (by decide) rfl m_fl_Ed_19 rfl d_Ed_edit_233 ?_
          refine lv_lload_n X.1 X.2.1 d_Ed_edit_236 rfl (lv_at hl 8 rfl) ?_
          refine z_iconst X d_Ed_edit_237 ?_
          refine lv_iload X.1 X.2.1 d_Ed_edit_238 (lv_at hl 0 rfl) ?_
          refine z_imul (r := (4 * ((pm - 1 - w : Nat):Int))) X d_Ed_edit_240 (by omega) ?_
          refine lv_lshr X.1 X.2.1 d_Ed_edit_241 rfl ?_
          refine lv_ldc2 X.1 X.2.1 X.2.2.2.1 (X.2.2.2.2.1 _ m_lc_Ed_62) d_Ed_edit_242 ?_
          refine lv_land X.1 X.2.1 d_Ed_edit_245 ?_
          refine z_nibi X d_Ed_edit_246 ?_
          have hnb := nb_in v0 (4 * ((pm - 1 - w : Nat):Int))
          refine z_afterV (w2 := fun u => (w_Ed h cA gA gK (uz r (pl + w) (nb v0 (4 * ((pm - 1 - w : Nat):Int)))) ((pl + w + 1 : Nat):Int) ((pl + (d + po) : Nat):Int) p1 s1 l1 k1 (i:Int) ((i + g : Nat):Int) rd an ed sz lk kd)) (wr := [(h 0, .inr (3, [.ref (h 1), .ref (h 4), .ref (h 6), .int (iI rd), .int (iI an), .int (iI ed), .int (iI sz), .int (iI lk), .int (iI kd)])), (h 1, .inr (0, [.ref (h 2), .ref (h 3)])), (h 2, .inl (cA 0, 200, .inl (zf gA))), (h 3, .inl (cA 0, 20, .inl (zf gK))), (h 6, .inr (2, [.ref (h 7), .ref (h 8), .ref (h 9), .ref (h 10), .int (iI (i:Int)), .int (iI ((i + g : Nat):Int))])), (h 7, .inl (cA 1, 401, .inl (zf p1))), (h 8, .inl (cA 2, 401, .inl (zf s1))), (h 9, .inl (cA 2, 401, .inl (zf l1))), (h 10, .inl (cA 0, 401, .inl (zf k1)))]) hw (z_runV (rest := []) X hw k_Sy v_Ed_91 [.int (iI (nb v0 (4 * ((pm - 1 - w : Nat):Int))))] (c_Sy_put l D cA h _ r (pl + w) ((pl + (d + po) : Nat):Int) (nb v0 (4 * ((pm - 1 - w : Nat):Int))) (by omega) (by omega)) 4 rfl [4, 5] rfl rfl rfl rfl hl.1 rfl (Nat.le_of_ble_eq_true rfl) ⟨rfl, rfl, Nat.le_of_ble_eq_true rfl, Nat.le_of_ble_eq_true rfl⟩ ⟨Nat.le_of_ble_eq_true rfl, Nat.le_of_ble_eq_true rfl⟩ d_Ed_edit_247) [4, 5] [0, 1, 2, 3, 6, 7, 8, 9, 10] [0, 1, 2, 3, 9, 10, 4, 5, 6, 7, 8] rfl rfl rfl (by decide) rfl (fun _ => rfl) (fun _ => rfl) (fun u_247 H locs hu_247 hw => ?_)
          refine z_iinc (lv' := [(10, .int (iI ((pm:Int) - 1 - ((w + 1 : Nat):Int)))), (9, .int (iI x)), (8, .int (iI b)), (7, .int (iI (i:Int))), (6, .int (iI (n:Int))), (0, .ref (h 0)), (1, .int (iI (pl:Int))), (2, .int (iI (po:Int))), (3, .long v0), (5, .int (iI (pm:Int)))]) (r := ((pm:Int) - 1 - ((w + 1 : Nat):Int))) (k := 0) X d_Ed_edit_250 hl rfl (by omega) (by decide) rfl (fun ls hl => ?_)
          refine z_goto (tgt := 227) X d_Ed_edit_253 (by decide) ?_
          exact ih (w + 1) (uz r (pl + w) (nb v0 (4 * ((pm - 1 - w : Nat):Int)))) (by omega) (by omega) (fun j hj => by rw [uz_n (by omega)]; exact hr1 j hj) (fun j hj => by rw [uz_n (by omega)]; exact hr2 j hj) (fun q hq => by
            by_cases e0 : q = w
            · rw [e0, uz_s]; rfl
            · rw [uz_n (by omega)]; exact hr3 q (by omega)) H locs ls hw (lv_sub hl [0, 1, 2, 3, 4, 5, 6, 7, 8, 9] rfl)
    have hl : lv_has ls 11 [(10, .int (iI ((pm:Int) - 1 - ((0 : Nat):Int)))), (9, .int (iI x)), (8, .int (iI b)), (7, .int (iI (i:Int))), (6, .int (iI (n:Int))), (0, .ref (h 0)), (1, .int (iI (pl:Int))), (2, .int (iI (po:Int))), (3, .long v0), (5, .int (iI (pm:Int)))] := by rw [show (pm:Int) - 1 - ((0 : Nat):Int) = (pm:Int) - 1 by omega]; exact hl
    exact lp (pm + 1) 0 u_205 (by omega) (by omega) (fun j _ => rfl) (fun j _ => rfl) (fun q hq => absurd hq (Nat.not_lt_zero q)) H locs ls hw hl
  have K160 : ∀ (i : Nat) (b : Int), IsF (sc a kt t n) pl cn i → (b = 1 ∧ i = cn ∧ 0 < cn ∨ b = 0 ∧ ¬ (i = cn ∧ 0 < cn)) → ∀ (ls : Array Slot), lv_has ls 11 [(8, .int (iI b)), (7, .int (iI (i:Int))), (6, .int (iI (n:Int))), (0, .ref (h 0)), (1, .int (iI (pl:Int))), (2, .int (iI (po:Int))), (3, .long v0), (5, .int (iI (pm:Int)))] → W p l e (rM 4 90) s m ([.ref (h 0), .int (iI (pl:Int)), .int (iI (po:Int)), .long v0, .int (iI (pm:Int))] : List Value).toArray below meth c s.heap [] 0 0 (MQ below (zQi (fun (z : Int) (u : (Nat → Int) × Nat × Nat × (Nat → Int) × (Nat → Int) × (Nat → Int) × (Nat → Int) × Nat × Nat × Nat × Int × Int × Int × Int × Int) => z = u.2.2.2.2.2.2.2.2.2.2.1 ∧ CI a kt t2 n2 u.2.2.2.2.2.2.2.2.2.1 gA gK u.1 u.2.2.2.1 u.2.2.2.2.1 u.2.2.2.2.2.1 u.2.2.2.2.2.2.1 u.2.1 u.2.2.1 u.2.2.2.2.2.2.2.1 u.2.2.2.2.2.2.2.2.1 ∧ EdR (sc a kt t n) (sc a kt t2 n2) n2 cn pl stop (u.2.2.2.2.2.2.2.2.2.2.1, u.2.2.2.2.2.2.2.2.2.2.2.1)) (fun u => (w_Ed h cA gA gK u.1 (u.2.1:Int) ((u.2.1 + u.2.2.1 : Nat):Int) u.2.2.2.1 u.2.2.2.2.1 u.2.2.2.2.2.1 u.2.2.2.2.2.2.1 (u.2.2.2.2.2.2.2.1:Int) ((u.2.2.2.2.2.2.2.1 + u.2.2.2.2.2.2.2.2.1 : Nat):Int) u.2.2.2.2.2.2.2.2.2.2.1 u.2.2.2.2.2.2.2.2.2.2.2.1 (ed + 1) u.2.2.2.2.2.2.2.2.2.2.2.2.1 u.2.2.2.2.2.2.2.2.2.2.2.2.2.1 u.2.2.2.2.2.2.2.2.2.2.2.2.2.2)) D (w_Ed h cA gA gK row (yl:Int) ((yl + d : Nat):Int) P S L K (cl:Int) ((cl + g : Nat):Int) rd an ed sz lk kd) hs) ([.ref (h 0), .int (iI (pl:Int)), .int (iI (po:Int)), .long v0, .int (iI (pm:Int))] : List Value).toArray s 0 0 (va_A (w_Ed h cA gA gK row (yl:Int) ((yl + d : Nat):Int) P S L K (cl:Int) ((cl + g : Nat):Int) rd an ed sz lk kd) hs)) (F0 m 160 ls []) := by
    intro i b hF hb ls hl
    have hFc := hF.1
    have hbs := bg_same hER hF.2.1 i (Nat.le_refl i)
    refine lv_iload X.1 X.2.1 d_Ed_edit_160 (lv_at hl 1 rfl) ?_
    refine lv_aload_n X.1 X.2.1 d_Ed_edit_162 rfl (lv_at hl 3 rfl) ?_
    refine z_get X hw k_Ed 0 rfl 2 (by decide) rfl m_fl_Ed_26 rfl d_Ed_edit_163 ?_
    refine z_callR (rest := [.int (iI (i:Int))]) X hw k_Sn v_Ed_70 [] (c_Sn_size l D cA h _ (cl:Int) ((cl + g : Nat):Int)) 6 rfl [6] rfl rfl rfl rfl hl.1 rfl (Nat.le_of_ble_eq_true rfl) ⟨rfl, rfl, Nat.le_of_ble_eq_true rfl, Nat.le_of_ble_eq_true rfl⟩ ⟨Nat.le_of_ble_eq_true rfl, Nat.le_of_ble_eq_true rfl⟩ d_Ed_edit_166 (fun z_166 hz_166 => ?_)
    subst hz_166
    refine z_as (z := (cn:Int)) (by omega) ?_
    refine z_icmp_ge (tgt := 186) X d_Ed_edit_169 (by decide) (by omega) (by omega) (fun c_169 => ?_) (fun c_169 => ?_)
    · refine z_iconst X d_Ed_edit_186 ?_
      refine z_istore (lv' := [(9, .int (iI 0)), (8, .int (iI b)), (7, .int (iI (i:Int))), (6, .int (iI (n:Int))), (0, .ref (h 0)), (1, .int (iI (pl:Int))), (2, .int (iI (po:Int))), (3, .long v0), (5, .int (iI (pm:Int)))]) X d_Ed_edit_187 hl (by decide) rfl (fun ls hl => ?_)
      exact K189 i b 0 hF hb (fun q => by
        have e0 : i = 0 := by omega
        rw [e0]; rfl) ls (lv_sub hl [0, 1, 2, 3, 4, 5, 6, 7, 8] rfl)
    · have hso := so_lt (cl := cl) (d := g) (i := i) (n := 401) (by omega) (by omega)
      refine lv_aload_n X.1 X.2.1 d_Ed_edit_172 rfl (lv_at hl 3 rfl) ?_
      refine z_get X hw k_Ed 0 rfl 2 (by decide) rfl m_fl_Ed_26 rfl d_Ed_edit_173 ?_
      refine lv_iload X.1 X.2.1 d_Ed_edit_176 (lv_at hl 1 rfl) ?_
      refine lv_iload X.1 X.2.1 d_Ed_edit_178 (lv_at hl 2 rfl) ?_
      refine z_callR (rest := []) X hw k_Sn v_Ed_71 [.int (iI (i:Int)), .int (iI (n:Int))] (c_Sn_place l D cA h _ P cl (cl + g) i (n:Int) (by omega) (by omega) (by omega) hso) 6 rfl [6, 7] rfl rfl rfl rfl hl.1 rfl (Nat.le_of_ble_eq_true rfl) ⟨rfl, rfl, Nat.le_of_ble_eq_true rfl, Nat.le_of_ble_eq_true rfl⟩ ⟨Nat.le_of_ble_eq_true rfl, Nat.le_of_ble_eq_true rfl⟩ d_Ed_edit_180 (fun z_180 hz_180 => ?_)
      subst hz_180
      refine z_as (z := ((bg (sc a kt t2 n2) i : Nat):Int)) (by rw [hbs]; exact (hit i (by omega)).1) ?_
      refine z_goto (tgt := 187) X d_Ed_edit_183 (by decide) ?_
      refine z_istore (lv' := [(9, .int (iI ((bg (sc a kt t2 n2) i : Nat):Int))), (8, .int (iI b)), (7, .int (iI (i:Int))), (6, .int (iI (n:Int))), (0, .ref (h 0)), (1, .int (iI (pl:Int))), (2, .int (iI (po:Int))), (3, .long v0), (5, .int (iI (pm:Int)))]) X d_Ed_edit_187 hl (by decide) rfl (fun ls hl => ?_)
      exact K189 i b ((bg (sc a kt t2 n2) i : Nat):Int) hF hb (fun q => rfl) ls (lv_sub hl [0, 1, 2, 3, 4, 5, 6, 7, 8] rfl)
  have K136 : ∀ (i : Nat), IsF (sc a kt t n) pl cn i → ∀ (ls : Array Slot), lv_has ls 11 [(7, .int (iI (i:Int))), (6, .int (iI (n:Int))), (0, .ref (h 0)), (1, .int (iI (pl:Int))), (2, .int (iI (po:Int))), (3, .long v0), (5, .int (iI (pm:Int)))] → W p l e (rM 4 90) s m ([.ref (h 0), .int (iI (pl:Int)), .int (iI (po:Int)), .long v0, .int (iI (pm:Int))] : List Value).toArray below meth c s.heap [] 0 0 (MQ below (zQi (fun (z : Int) (u : (Nat → Int) × Nat × Nat × (Nat → Int) × (Nat → Int) × (Nat → Int) × (Nat → Int) × Nat × Nat × Nat × Int × Int × Int × Int × Int) => z = u.2.2.2.2.2.2.2.2.2.2.1 ∧ CI a kt t2 n2 u.2.2.2.2.2.2.2.2.2.1 gA gK u.1 u.2.2.2.1 u.2.2.2.2.1 u.2.2.2.2.2.1 u.2.2.2.2.2.2.1 u.2.1 u.2.2.1 u.2.2.2.2.2.2.2.1 u.2.2.2.2.2.2.2.2.1 ∧ EdR (sc a kt t n) (sc a kt t2 n2) n2 cn pl stop (u.2.2.2.2.2.2.2.2.2.2.1, u.2.2.2.2.2.2.2.2.2.2.2.1)) (fun u => (w_Ed h cA gA gK u.1 (u.2.1:Int) ((u.2.1 + u.2.2.1 : Nat):Int) u.2.2.2.1 u.2.2.2.2.1 u.2.2.2.2.2.1 u.2.2.2.2.2.2.1 (u.2.2.2.2.2.2.2.1:Int) ((u.2.2.2.2.2.2.2.1 + u.2.2.2.2.2.2.2.2.1 : Nat):Int) u.2.2.2.2.2.2.2.2.2.2.1 u.2.2.2.2.2.2.2.2.2.2.2.1 (ed + 1) u.2.2.2.2.2.2.2.2.2.2.2.2.1 u.2.2.2.2.2.2.2.2.2.2.2.2.2.1 u.2.2.2.2.2.2.2.2.2.2.2.2.2.2)) D (w_Ed h cA gA gK row (yl:Int) ((yl + d : Nat):Int) P S L K (cl:Int) ((cl + g : Nat):Int) rd an ed sz lk kd) hs) ([.ref (h 0), .int (iI (pl:Int)), .int (iI (po:Int)), .long v0, .int (iI (pm:Int))] : List Value).toArray s 0 0 (va_A (w_Ed h cA gA gK row (yl:Int) ((yl + d : Nat):Int) P S L K (cl:Int) ((cl + g : Nat):Int) rd an ed sz lk kd) hs)) (F0 m 136 ls []) := by
    intro i hF ls hl
    have hFc := hF.1
    refine lv_iload X.1 X.2.1 d_Ed_edit_136 (lv_at hl 0 rfl) ?_
    refine lv_aload_n X.1 X.2.1 d_Ed_edit_138 rfl (lv_at hl 2 rfl) ?_
    refine z_get X hw k_Ed 0 rfl 2 (by decide) rfl m_fl_Ed_26 rfl d_Ed_edit_139 ?_
    refine z_callR (rest := [.int (iI (i:Int))]) X hw k_Sn v_Ed_70 [] (c_Sn_size l D cA h _ (cl:Int) ((cl + g : Nat):Int)) 6 rfl [6] rfl rfl rfl rfl hl.1 rfl (Nat.le_of_ble_eq_true rfl) ⟨rfl, rfl, Nat.le_of_ble_eq_true rfl, Nat.le_of_ble_eq_true rfl⟩ ⟨Nat.le_of_ble_eq_true rfl, Nat.le_of_ble_eq_true rfl⟩ d_Ed_edit_142 (fun z_142 hz_142 => ?_)
    subst hz_142
    refine z_as (z := (cn:Int)) (by omega) ?_
    refine z_icmp_ne (tgt := 157) X d_Ed_edit_145 (by decide) (by omega) (by omega) (fun c_145 => ?_) (fun c_145 => ?_)
    · refine z_iconst X d_Ed_edit_157 ?_
      refine z_istore (lv' := [(8, .int (iI 0)), (7, .int (iI (i:Int))), (6, .int (iI (n:Int))), (0, .ref (h 0)), (1, .int (iI (pl:Int))), (2, .int (iI (po:Int))), (3, .long v0), (5, .int (iI (pm:Int)))]) X d_Ed_edit_158 hl (by decide) rfl (fun ls hl => ?_)
      exact K160 i 0 hF (by omega) ls (lv_sub hl [0, 1, 2, 3, 4, 5, 6, 7] rfl)
    · refine lv_iload X.1 X.2.1 d_Ed_edit_148 (lv_at hl 0 rfl) ?_
      refine z_if_le (tgt := 157) X d_Ed_edit_150 (by decide) (by omega) (fun c_150 => ?_) (fun c_150 => ?_)
      · refine z_iconst X d_Ed_edit_157 ?_
        refine z_istore (lv' := [(8, .int (iI 0)), (7, .int (iI (i:Int))), (6, .int (iI (n:Int))), (0, .ref (h 0)), (1, .int (iI (pl:Int))), (2, .int (iI (po:Int))), (3, .long v0), (5, .int (iI (pm:Int)))]) X d_Ed_edit_158 hl (by decide) rfl (fun ls hl => ?_)
        exact K160 i 0 hF (by omega) ls (lv_sub hl [0, 1, 2, 3, 4, 5, 6, 7] rfl)
      · refine z_iconst X d_Ed_edit_153 ?_
        refine z_goto (tgt := 158) X d_Ed_edit_154 (by decide) ?_
        refine z_istore (lv' := [(8, .int (iI 1)), (7, .int (iI (i:Int))), (6, .int (iI (n:Int))), (0, .ref (h 0)), (1, .int (iI (pl:Int))), (2, .int (iI (po:Int))), (3, .long v0), (5, .int (iI (pm:Int)))]) X d_Ed_edit_158 hl (by decide) rfl (fun ls hl => ?_)
        exact K160 i 1 hF (by omega) ls (lv_sub hl [0, 1, 2, 3, 4, 5, 6, 7] rfl)
  have lp : ∀ (f : Nat) (i : Nat), i ≤ cn → cn < f + i → (∀ j, j < i → bg (sc a kt t n) j + ((sc a kt t n) (bg (sc a kt t n) j)).1 ≤ pl) → ∀ (ls : Array Slot), lv_has ls 11 [(7, .int (iI (i:Int))), (6, .int (iI (n:Int))), (0, .ref (h 0)), (1, .int (iI (pl:Int))), (2, .int (iI (po:Int))), (3, .long v0), (5, .int (iI (pm:Int)))] → W p l e (rM 4 90) s m ([.ref (h 0), .int (iI (pl:Int)), .int (iI (po:Int)), .long v0, .int (iI (pm:Int))] : List Value).toArray below meth c s.heap [] 0 0 (MQ below (zQi (fun (z : Int) (u : (Nat → Int) × Nat × Nat × (Nat → Int) × (Nat → Int) × (Nat → Int) × (Nat → Int) × Nat × Nat × Nat × Int × Int × Int × Int × Int) => z = u.2.2.2.2.2.2.2.2.2.2.1 ∧ CI a kt t2 n2 u.2.2.2.2.2.2.2.2.2.1 gA gK u.1 u.2.2.2.1 u.2.2.2.2.1 u.2.2.2.2.2.1 u.2.2.2.2.2.2.1 u.2.1 u.2.2.1 u.2.2.2.2.2.2.2.1 u.2.2.2.2.2.2.2.2.1 ∧ EdR (sc a kt t n) (sc a kt t2 n2) n2 cn pl stop (u.2.2.2.2.2.2.2.2.2.2.1, u.2.2.2.2.2.2.2.2.2.2.2.1)) (fun u => (w_Ed h cA gA gK u.1 (u.2.1:Int) ((u.2.1 + u.2.2.1 : Nat):Int) u.2.2.2.1 u.2.2.2.2.1 u.2.2.2.2.2.1 u.2.2.2.2.2.2.1 (u.2.2.2.2.2.2.2.1:Int) ((u.2.2.2.2.2.2.2.1 + u.2.2.2.2.2.2.2.2.1 : Nat):Int) u.2.2.2.2.2.2.2.2.2.2.1 u.2.2.2.2.2.2.2.2.2.2.2.1 (ed + 1) u.2.2.2.2.2.2.2.2.2.2.2.2.1 u.2.2.2.2.2.2.2.2.2.2.2.2.2.1 u.2.2.2.2.2.2.2.2.2.2.2.2.2.2)) D (w_Ed h cA gA gK row (yl:Int) ((yl + d : Nat):Int) P S L K (cl:Int) ((cl + g : Nat):Int) rd an ed sz lk kd) hs) ([.ref (h 0), .int (iI (pl:Int)), .int (iI (po:Int)), .long v0, .int (iI (pm:Int))] : List Value).toArray s 0 0 (va_A (w_Ed h cA gA gK row (yl:Int) ((yl + d : Nat):Int) P S L K (cl:Int) ((cl + g : Nat):Int) rd an ed sz lk kd) hs)) (F0 m 85 ls []) := by
    intro f
    induction f with
    | zero =>
      intro i hi hf h1 ls hl
      exfalso; omega
    | succ f ih =>
      intro i hi hf h1 ls hl
      refine lv_iload X.1 X.2.1 d_Ed_edit_85 (lv_at hl 0 rfl) ?_
      refine lv_aload_n X.1 X.2.1 d_Ed_edit_87 rfl (lv_at hl 2 rfl) ?_
      refine z_get X hw k_Ed 0 rfl 2 (by decide) rfl m_fl_Ed_26 rfl d_Ed_edit_88 ?_
      refine z_callR (rest := [.int (iI (i:Int))]) X hw k_Sn v_Ed_70 [] (c_Sn_size l D cA h _ (cl:Int) ((cl + g : Nat):Int)) 6 rfl [6] rfl rfl rfl rfl hl.1 rfl (Nat.le_of_ble_eq_true rfl) ⟨rfl, rfl, Nat.le_of_ble_eq_true rfl, Nat.le_of_ble_eq_true rfl⟩ ⟨Nat.le_of_ble_eq_true rfl, Nat.le_of_ble_eq_true rfl⟩ d_Ed_edit_91 (fun z_91 hz_91 => ?_)
      subst hz_91
      refine z_as (z := (cn:Int)) (by omega) ?_
      refine z_icmp_ge (tgt := 136) X d_Ed_edit_94 (by decide) (by omega) (by omega) (fun c_94 => ?_) (fun c_94 => ?_)
      · exact K136 i ⟨by omega, h1, fun _ => by omega⟩ ls (lv_sub hl [0, 1, 2, 3, 4, 5, 6] rfl)
      · have hso := so_lt (cl := cl) (d := g) (i := i) (n := 401) (by omega) (by omega)
        have hi := hit i (by omega)
        have hbi := hB i (by omega)
        have hfi := hFb i (by omega)
        refine lv_aload_n X.1 X.2.1 d_Ed_edit_97 rfl (lv_at hl 2 rfl) ?_
        refine z_get X hw k_Ed 0 rfl 2 (by decide) rfl m_fl_Ed_26 rfl d_Ed_edit_98 ?_
        refine lv_iload X.1 X.2.1 d_Ed_edit_101 (lv_at hl 0 rfl) ?_
        refine lv_iload X.1 X.2.1 d_Ed_edit_103 (lv_at hl 1 rfl) ?_
        refine z_callR (rest := []) X hw k_Sn v_Ed_71 [.int (iI (i:Int)), .int (iI (n:Int))] (c_Sn_place l D cA h _ P cl (cl + g) i (n:Int) (by omega) (by omega) (by omega) hso) 6 rfl [6, 7] rfl rfl rfl rfl hl.1 rfl (Nat.le_of_ble_eq_true rfl) ⟨rfl, rfl, Nat.le_of_ble_eq_true rfl, Nat.le_of_ble_eq_true rfl⟩ ⟨Nat.le_of_ble_eq_true rfl, Nat.le_of_ble_eq_true rfl⟩ d_Ed_edit_105 (fun z_105 hz_105 => ?_)
        subst hz_105
        refine z_as (z := ((bg (sc a kt t n) i : Nat):Int)) hi.1 ?_
        refine lv_aload_n X.1 X.2.1 d_Ed_edit_108 rfl (lv_at hl 2 rfl) ?_
        refine z_get X hw k_Ed 0 rfl 2 (by decide) rfl m_fl_Ed_26 rfl d_Ed_edit_109 ?_
        refine z_getN X hw k_Sn 6 rfl 2 (by decide) rfl (f_Ed_74 X.2.2.2.2.2.2) rfl d_Ed_edit_112 ?_
        refine lv_aload_n X.1 X.2.1 d_Ed_edit_115 rfl (lv_at hl 2 rfl) ?_
        refine z_get X hw k_Ed 0 rfl 2 (by decide) rfl m_fl_Ed_26 rfl d_Ed_edit_116 ?_
        refine lv_iload X.1 X.2.1 d_Ed_edit_119 (lv_at hl 0 rfl) ?_
        refine z_callRN (rest := [.ref (h 9), .int (iI ((bg (sc a kt t n) i : Nat):Int))]) X hw k_Sn (f_Ed_78 X.2.2.2.2.2.2) m_im_Sn_slot m_se_Sn_slot m_in_Sn m_co_Sn_slot x_Sn_slot [.int (iI (i:Int))] (c_Sn_slot l D cA h _ cl (cl + g) i (by omega) (by omega) (by omega)) 6 rfl [6] rfl rfl rfl rfl hl.1 rfl (Nat.le_of_ble_eq_true rfl) ⟨rfl, rfl, Nat.le_of_ble_eq_true rfl, Nat.le_of_ble_eq_true rfl⟩ ⟨Nat.le_of_ble_eq_true rfl, Nat.le_of_ble_eq_true rfl⟩ d_Ed_edit_121 (fun z_121 hz_121 => ?_)
        subst hz_121
        refine z_sald X hw 9 rfl (so cl (cl + g) i) (by omega) (by omega) (by decide) d_Ed_edit_124 ?_
        refine z_as (z := ((((sc a kt t n) (bg (sc a kt t n) i)).1 : Nat):Int)) hi.2.2.1 ?_
        refine z_iadd (r := (((bg (sc a kt t n) i : Nat):Int) + ((((sc a kt t n) (bg (sc a kt t n) i)).1 : Nat):Int))) X d_Ed_edit_125 rfl ?_
        refine lv_iload_n X.1 X.2.1 d_Ed_edit_126 rfl (lv_at hl 3 rfl) ?_
        refine z_icmp_gt (tgt := 136) X d_Ed_edit_127 (by decide) (by omega) (by omega) (fun c_127 => ?_) (fun c_127 => ?_)
        · exact K136 i ⟨by omega, h1, fun _ => by omega⟩ ls (lv_sub hl [0, 1, 2, 3, 4, 5, 6] rfl)
        · refine z_iinc (lv' := [(7, .int (iI ((i + 1 : Nat):Int))), (6, .int (iI (n:Int))), (0, .ref (h 0)), (1, .int (iI (pl:Int))), (2, .int (iI (po:Int))), (3, .long v0), (5, .int (iI (pm:Int)))]) (r := ((i + 1 : Nat):Int)) (k := 0) X d_Ed_edit_130 hl rfl (by omega) (by decide) rfl (fun ls hl => ?_)
          refine z_goto (tgt := 85) X d_Ed_edit_133 (by decide) ?_
          exact ih (i + 1) (by omega) (by omega) (fun j hj => by
            by_cases e0 : j = i
            · rw [e0]; omega
            · exact h1 j (by omega)) ls (lv_sub hl [0, 1, 2, 3, 4, 5, 6] rfl)
  refine lv_iload X.1 X.2.1 d_Ed_edit_0 (lv_at hl 4 rfl) ?_
  refine z_if_lt (tgt := 71) X d_Ed_edit_2 (by decide) (by omega) (fun c_2 => ?_) (fun c_2 => ?_)
  · exfalso; omega
  · refine lv_iload X.1 X.2.1 d_Ed_edit_5 (lv_at hl 4 rfl) ?_
    refine z_bipush X d_Ed_edit_7 (by decide) ?_
    refine z_icmp_gt (tgt := 71) X d_Ed_edit_9 (by decide) (by omega) (by omega) (fun c_9 => ?_) (fun c_9 => ?_)
    · exfalso; omega
    · refine lv_lload_n X.1 X.2.1 d_Ed_edit_12 rfl (lv_at hl 3 rfl) ?_
      refine lv_iload X.1 X.2.1 d_Ed_edit_13 (lv_at hl 4 rfl) ?_
      refine z_callRS (rest := []) X hw v_Ed_66 [.long v0, .int (iI (pm:Int))] (c_Ed_areSymbols l D cA _ v0 pm (by omega)) rfl hl.1 rfl (Nat.le_of_ble_eq_true rfl) ⟨rfl, rfl, Nat.le_of_ble_eq_true rfl, Nat.le_of_ble_eq_true rfl⟩ ⟨Nat.le_of_ble_eq_true rfl, Nat.le_of_ble_eq_true rfl⟩ d_Ed_edit_15 (fun z_15 hz_15 => ?_)
      refine z_if_eq (tgt := 71) X d_Ed_edit_18 (by decide) (by rcases hz_15 with ⟨q, _⟩ | ⟨q, _⟩ <;> omega) (fun c_18 => ?_) (fun c_18 => ?_)
      · rcases hz_15 with ⟨q, _⟩ | ⟨_, q⟩
        · omega
        · exact absurd haS q
      · refine lv_iload_n X.1 X.2.1 d_Ed_edit_21 rfl (lv_at hl 1 rfl) ?_
        refine z_if_lt (tgt := 71) X d_Ed_edit_22 (by decide) (by omega) (fun c_22 => ?_) (fun c_22 => ?_)
        · exfalso; omega
        · refine lv_iload_n X.1 X.2.1 d_Ed_edit_25 rfl (lv_at hl 2 rfl) ?_
          refine z_if_lt (tgt := 71) X d_Ed_edit_26 (by decide) (by omega) (fun c_26 => ?_) (fun c_26 => ?_)
          · exfalso; omega
          · refine lv_iload_n X.1 X.2.1 d_Ed_edit_29 rfl (lv_at hl 1 rfl) ?_
            refine lv_aload_n X.1 X.2.1 d_Ed_edit_30 rfl (lv_at hl 0 rfl) ?_
            refine z_get X hw k_Ed 0 rfl 1 (by decide) rfl m_fl_Ed_19 rfl d_Ed_edit_31 ?_
            refine z_callR (rest := [.int (iI (pl:Int))]) X hw k_Sy v_Ed_34 [] (c_Sy_size l D cA h _ (yl:Int) ((yl + d : Nat):Int)) 4 rfl [4] rfl rfl rfl rfl hl.1 rfl (Nat.le_of_ble_eq_true rfl) ⟨rfl, rfl, Nat.le_of_ble_eq_true rfl, Nat.le_of_ble_eq_true rfl⟩ ⟨Nat.le_of_ble_eq_true rfl, Nat.le_of_ble_eq_true rfl⟩ d_Ed_edit_34 (fun z_34 hz_34 => ?_)
            subst hz_34
            refine z_as (z := (n:Int)) (by omega) ?_
            refine z_icmp_gt (tgt := 71) X d_Ed_edit_37 (by decide) (by omega) (by omega) (fun c_37 => ?_) (fun c_37 => ?_)
            · exfalso; omega
            · refine lv_iload_n X.1 X.2.1 d_Ed_edit_40 rfl (lv_at hl 2 rfl) ?_
              refine lv_aload_n X.1 X.2.1 d_Ed_edit_41 rfl (lv_at hl 0 rfl) ?_
              refine z_get X hw k_Ed 0 rfl 1 (by decide) rfl m_fl_Ed_19 rfl d_Ed_edit_42 ?_
              refine z_callR (rest := [.int (iI (po:Int))]) X hw k_Sy v_Ed_34 [] (c_Sy_size l D cA h _ (yl:Int) ((yl + d : Nat):Int)) 4 rfl [4] rfl rfl rfl rfl hl.1 rfl (Nat.le_of_ble_eq_true rfl) ⟨rfl, rfl, Nat.le_of_ble_eq_true rfl, Nat.le_of_ble_eq_true rfl⟩ ⟨Nat.le_of_ble_eq_true rfl, Nat.le_of_ble_eq_true rfl⟩ d_Ed_edit_45 (fun z_45 hz_45 => ?_)
              subst hz_45
              refine z_as (z := (n:Int)) (by omega) ?_
              refine lv_iload_n X.1 X.2.1 d_Ed_edit_48 rfl (lv_at hl 1 rfl) ?_
              refine z_isub (r := ((n:Int) - (pl:Int))) X d_Ed_edit_49 rfl ?_
              refine z_icmp_gt (tgt := 71) X d_Ed_edit_50 (by decide) (by omega) (by omega) (fun c_50 => ?_) (fun c_50 => ?_)
              · exfalso; omega
              · refine lv_aload_n X.1 X.2.1 d_Ed_edit_53 rfl (lv_at hl 0 rfl) ?_
                refine z_get X hw k_Ed 0 rfl 1 (by decide) rfl m_fl_Ed_19 rfl d_Ed_edit_54 ?_
                refine z_callR (rest := []) X hw k_Sy v_Ed_34 [] (c_Sy_size l D cA h _ (yl:Int) ((yl + d : Nat):Int)) 4 rfl [4] rfl rfl rfl rfl hl.1 rfl (Nat.le_of_ble_eq_true rfl) ⟨rfl, rfl, Nat.le_of_ble_eq_true rfl, Nat.le_of_ble_eq_true rfl⟩ ⟨Nat.le_of_ble_eq_true rfl, Nat.le_of_ble_eq_true rfl⟩ d_Ed_edit_57 (fun z_57 hz_57 => ?_)
                subst hz_57
                refine z_as (z := (n:Int)) (by omega) ?_
                refine lv_iload_n X.1 X.2.1 d_Ed_edit_60 rfl (lv_at hl 2 rfl) ?_
                refine z_isub (r := ((n:Int) - (po:Int))) X d_Ed_edit_61 rfl ?_
                refine lv_iload X.1 X.2.1 d_Ed_edit_62 (lv_at hl 4 rfl) ?_
                refine z_iadd (r := (((n:Int) - (po:Int)) + (pm:Int))) X d_Ed_edit_64 rfl ?_
                refine z_sipush X d_Ed_edit_65 (by decide) ?_
                refine z_icmp_le (tgt := 73) X d_Ed_edit_68 (by decide) (by omega) (by omega) (fun c_68 => ?_) (fun c_68 => ?_)
                · refine lv_aload_n X.1 X.2.1 d_Ed_edit_73 rfl (lv_at hl 0 rfl) ?_
                  refine z_get X hw k_Ed 0 rfl 1 (by decide) rfl m_fl_Ed_19 rfl d_Ed_edit_74 ?_
                  refine z_callR (rest := []) X hw k_Sy v_Ed_34 [] (c_Sy_size l D cA h _ (yl:Int) ((yl + d : Nat):Int)) 4 rfl [4] rfl rfl rfl rfl hl.1 rfl (Nat.le_of_ble_eq_true rfl) ⟨rfl, rfl, Nat.le_of_ble_eq_true rfl, Nat.le_of_ble_eq_true rfl⟩ ⟨Nat.le_of_ble_eq_true rfl, Nat.le_of_ble_eq_true rfl⟩ d_Ed_edit_77 (fun z_77 hz_77 => ?_)
                  subst hz_77
                  refine z_as (z := (n:Int)) (by omega) ?_
                  refine z_istore (lv' := [(6, .int (iI (n:Int))), (0, .ref (h 0)), (1, .int (iI (pl:Int))), (2, .int (iI (po:Int))), (3, .long v0), (5, .int (iI (pm:Int)))]) X d_Ed_edit_80 hl (by decide) rfl (fun ls hl => ?_)
                  refine z_iconst X d_Ed_edit_82 ?_
                  refine z_istore (lv' := [(7, .int (iI 0)), (6, .int (iI (n:Int))), (0, .ref (h 0)), (1, .int (iI (pl:Int))), (2, .int (iI (po:Int))), (3, .long v0), (5, .int (iI (pm:Int)))]) X d_Ed_edit_83 hl (by decide) rfl (fun ls hl => ?_)
                  exact lp (cn + 1) 0 (by omega) (by omega) (fun j hj => absurd hj (Nat.not_lt_zero j)) ls (lv_sub hl [0, 1, 2, 3, 4, 5, 6] rfl)
                · exfalso; omega
end
section
set_option maxHeartbeats 4000000 in
set_option maxRecDepth 100000 in
/-- all anew -/
theorem c_Mo_forget (l : Launch) (D : va_G) (cA : Nat → ClassId) (k : Nat → Nat) (hs : Nat) (mA mK mT mB mZ mO mL mQ : Nat → Int) (mn tk fa fl oT oF oS rm sm em tS tK tL : Int) : Met l y_Mo_forget (cW y_Mo_forget b_Mo_forget 2 none) (rM 0 0) (zP [.ref (k 0)] D cA (w_Mo k cA mA mK mT mn tk mB mZ mO mL fa fl oT mQ oF oS rm sm em tS tK tL) hs) (zQv (fun u : (Nat → Int) × (Nat → Int) => (∀ j, j < 200 → u.1 j = -1) ∧ ∀ j, j < 20 → u.2 j = -1) (fun u => (w_Mo k cA u.1 u.2 mT 0 0 mB mZ mO mL (-1) 0 oT mQ oF oS 0 0 0 tS tK tL)) D (w_Mo k cA mA mK mT mn tk mB mZ mO mL fa fl oT mQ oF oS rm sm em tS tK tL) hs) 0 0 (va_A (w_Mo k cA mA mK mT mn tk mB mZ mO mL fa fl oT mQ oF oS rm sm em tS tK tL) hs) := by
  refine z_ofW (lv := [(0, .ref (k 0))]) (by decide) (Nat.le_of_ble_eq_true rfl) rfl ?_
  intro p e s m below meth c ls hr hlk hnm X hhs hw hl
  have X : Cx p s m ([.ref (k 0)] : List Value).toArray c b_Mo_forget 2 R_Mo D cA := X
  have lp2 : ∀ (f : Nat) (i : Nat) (g1 g2 : Nat → Int), i ≤ 20 → 20 < f + i → (∀ j, j < 200 → g1 j = -1) → (∀ j, j < i → g2 j = -1) → ∀ (H : Heap) (locs : List Loc) (ls : Array Slot), Wd D (va_A (w_Mo k cA mA mK mT mn tk mB mZ mO mL fa fl oT mQ oF oS rm sm em tS tK tL) hs) s.heap (w_Mo k cA g1 g2 mT mn tk mB mZ mO mL fa fl oT mQ oF oS rm sm em tS tK tL) H locs → lv_has ls 2 [(1, .int (iI (i:Int))), (0, .ref (k 0))] → W p l e (rM 0 0) s m ([.ref (k 0)] : List Value).toArray below meth c H locs 0 0 (MQ below (zQv (fun u : (Nat → Int) × (Nat → Int) => (∀ j, j < 200 → u.1 j = -1) ∧ ∀ j, j < 20 → u.2 j = -1) (fun u => (w_Mo k cA u.1 u.2 mT 0 0 mB mZ mO mL (-1) 0 oT mQ oF oS 0 0 0 tS tK tL)) D (w_Mo k cA mA mK mT mn tk mB mZ mO mL fa fl oT mQ oF oS rm sm em tS tK tL) hs) ([.ref (k 0)] : List Value).toArray s 0 0 (va_A (w_Mo k cA mA mK mT mn tk mB mZ mO mL fa fl oT mQ oF oS rm sm em tS tK tL) hs)) (F0 m 24 ls []) := by
    intro f
    induction f with
    | zero =>
      intro i g1 g2 hi hf h1 h2 H locs ls hw hl
      exfalso; omega
    | succ f ih =>
      intro i g1 g2 hi hf h1 h2 H locs ls hw hl
      refine lv_iload_n X.1 X.2.1 d_Mo_forget_24 rfl (lv_at hl 0 rfl) ?_
      refine z_bipush X d_Mo_forget_25 (by decide) ?_
      refine z_icmp_ge (tgt := 43) X d_Mo_forget_27 (by decide) (by omega) (by omega) (fun c_27 => ?_) (fun c_27 => ?_)
      · refine lv_aload_n X.1 X.2.1 d_Mo_forget_43 rfl (lv_at hl 1 rfl) ?_
        refine z_iconst X d_Mo_forget_44 ?_
        refine z_put (ws' := (w_Mo k cA g1 g2 mT 0 tk mB mZ mO mL fa fl oT mQ oF oS rm sm em tS tK tL)) X hw k_Mo 0 rfl 3 (by decide) rfl rfl (Nat.le_of_ble_eq_true rfl) m_fl_Mo_41 rfl d_Mo_forget_45 rfl (fun H locs hw => ?_)
        refine lv_aload_n X.1 X.2.1 d_Mo_forget_48 rfl (lv_at hl 1 rfl) ?_
        refine z_iconst X d_Mo_forget_49 ?_
        refine z_put (ws' := (w_Mo k cA g1 g2 mT 0 0 mB mZ mO mL fa fl oT mQ oF oS rm sm em tS tK tL)) X hw k_Mo 0 rfl 4 (by decide) rfl rfl (Nat.le_of_ble_eq_true rfl) m_fl_Mo_44 rfl d_Mo_forget_50 rfl (fun H locs hw => ?_)
        refine lv_aload_n X.1 X.2.1 d_Mo_forget_53 rfl (lv_at hl 1 rfl) ?_
        refine z_iconst X d_Mo_forget_54 ?_
        refine z_put (ws' := (w_Mo k cA g1 g2 mT 0 0 mB mZ mO mL (-1) fl oT mQ oF oS rm sm em tS tK tL)) X hw k_Mo 0 rfl 9 (by decide) rfl rfl (Nat.le_of_ble_eq_true rfl) m_fl_Mo_31 rfl d_Mo_forget_55 rfl (fun H locs hw => ?_)
        refine lv_aload_n X.1 X.2.1 d_Mo_forget_58 rfl (lv_at hl 1 rfl) ?_
        refine z_iconst X d_Mo_forget_59 ?_
        refine z_put (ws' := (w_Mo k cA g1 g2 mT 0 0 mB mZ mO mL (-1) 0 oT mQ oF oS rm sm em tS tK tL)) X hw k_Mo 0 rfl 10 (by decide) rfl rfl (Nat.le_of_ble_eq_true rfl) m_fl_Mo_47 rfl d_Mo_forget_60 rfl (fun H locs hw => ?_)
        refine lv_aload_n X.1 X.2.1 d_Mo_forget_63 rfl (lv_at hl 1 rfl) ?_
        refine z_iconst X d_Mo_forget_64 ?_
        refine z_put (ws' := (w_Mo k cA g1 g2 mT 0 0 mB mZ mO mL (-1) 0 oT mQ oF oS 0 sm em tS tK tL)) X hw k_Mo 0 rfl 15 (by decide) rfl rfl (Nat.le_of_ble_eq_true rfl) m_fl_Mo_50 rfl d_Mo_forget_65 rfl (fun H locs hw => ?_)
        refine lv_aload_n X.1 X.2.1 d_Mo_forget_68 rfl (lv_at hl 1 rfl) ?_
        refine z_iconst X d_Mo_forget_69 ?_
        refine z_put (ws' := (w_Mo k cA g1 g2 mT 0 0 mB mZ mO mL (-1) 0 oT mQ oF oS 0 0 em tS tK tL)) X hw k_Mo 0 rfl 16 (by decide) rfl rfl (Nat.le_of_ble_eq_true rfl) m_fl_Mo_53 rfl d_Mo_forget_70 rfl (fun H locs hw => ?_)
        refine lv_aload_n X.1 X.2.1 d_Mo_forget_73 rfl (lv_at hl 1 rfl) ?_
        refine z_iconst X d_Mo_forget_74 ?_
        refine z_put (ws' := (w_Mo k cA g1 g2 mT 0 0 mB mZ mO mL (-1) 0 oT mQ oF oS 0 0 0 tS tK tL)) X hw k_Mo 0 rfl 17 (by decide) rfl rfl (Nat.le_of_ble_eq_true rfl) m_fl_Mo_56 rfl d_Mo_forget_75 rfl (fun H locs hw => ?_)
        exact z_vret X hr hlk (g1, g2) ⟨h1, fun j hj => h2 j (by omega)⟩ hw d_Mo_forget_78
      · refine lv_aload_n X.1 X.2.1 d_Mo_forget_30 rfl (lv_at hl 1 rfl) ?_
        refine z_get X hw k_Mo 0 rfl 1 (by decide) rfl m_fl_Mo_13 rfl d_Mo_forget_31 ?_
        refine lv_iload_n X.1 X.2.1 d_Mo_forget_34 rfl (lv_at hl 0 rfl) ?_
        refine z_iconst X d_Mo_forget_35 ?_
        refine z_iast (ws' := (w_Mo k cA g1 (uz g2 i (-1)) mT mn tk mB mZ mO mL fa fl oT mQ oF oS rm sm em tS tK tL)) X hw 2 rfl i (by omega) (by omega) (by decide) d_Mo_forget_36 rfl (fun H locs hw => ?_)
        refine z_iinc (lv' := [(1, .int (iI ((i + 1 : Nat):Int))), (0, .ref (k 0))]) (r := ((i + 1 : Nat):Int)) (k := 0) X d_Mo_forget_37 hl rfl (by omega) (by decide) rfl (fun ls hl => ?_)
        refine z_goto (tgt := 24) X d_Mo_forget_40 (by decide) ?_
        exact ih (i + 1) g1 (uz g2 i (-1)) (by omega) (by omega) h1 (uz_P (P := fun _ x => x = -1) h2 rfl) H locs ls hw (lv_sub hl [0, 1] rfl)
  have lp1 : ∀ (f : Nat) (i : Nat) (g1 : Nat → Int), i ≤ 200 → 200 < f + i → (∀ j, j < i → g1 j = -1) → ∀ (H : Heap) (locs : List Loc) (ls : Array Slot), Wd D (va_A (w_Mo k cA mA mK mT mn tk mB mZ mO mL fa fl oT mQ oF oS rm sm em tS tK tL) hs) s.heap (w_Mo k cA g1 mK mT mn tk mB mZ mO mL fa fl oT mQ oF oS rm sm em tS tK tL) H locs → lv_has ls 2 [(1, .int (iI (i:Int))), (0, .ref (k 0))] → W p l e (rM 0 0) s m ([.ref (k 0)] : List Value).toArray below meth c H locs 0 0 (MQ below (zQv (fun u : (Nat → Int) × (Nat → Int) => (∀ j, j < 200 → u.1 j = -1) ∧ ∀ j, j < 20 → u.2 j = -1) (fun u => (w_Mo k cA u.1 u.2 mT 0 0 mB mZ mO mL (-1) 0 oT mQ oF oS 0 0 0 tS tK tL)) D (w_Mo k cA mA mK mT mn tk mB mZ mO mL fa fl oT mQ oF oS rm sm em tS tK tL) hs) ([.ref (k 0)] : List Value).toArray s 0 0 (va_A (w_Mo k cA mA mK mT mn tk mB mZ mO mL fa fl oT mQ oF oS rm sm em tS tK tL) hs)) (F0 m 2 ls []) := by
    intro f
    induction f with
    | zero =>
      intro i g1 hi hf h1 H locs ls hw hl
      exfalso; omega
    | succ f ih =>
      intro i g1 hi hf h1 H locs ls hw hl
      refine lv_iload_n X.1 X.2.1 d_Mo_forget_2 rfl (lv_at hl 0 rfl) ?_
      refine z_sipush X d_Mo_forget_3 (by decide) ?_
      refine z_icmp_ge (tgt := 22) X d_Mo_forget_6 (by decide) (by omega) (by omega) (fun c_6 => ?_) (fun c_6 => ?_)
      · refine z_iconst X d_Mo_forget_22 ?_
        refine z_istore_n (lv' := [(1, .int (iI 0)), (0, .ref (k 0))]) X d_Mo_forget_23 rfl hl (by decide) rfl (fun ls hl => ?_)
        exact lp2 21 0 g1 mK (by omega) (by omega) (fun j hj => h1 j (by omega)) (fun j hj => absurd hj (Nat.not_lt_zero j)) H locs ls hw (lv_sub hl [0, 1] rfl)
      · refine lv_aload_n X.1 X.2.1 d_Mo_forget_9 rfl (lv_at hl 1 rfl) ?_
        refine z_get X hw k_Mo 0 rfl 0 (by decide) rfl m_fl_Mo_7 rfl d_Mo_forget_10 ?_
        refine lv_iload_n X.1 X.2.1 d_Mo_forget_13 rfl (lv_at hl 0 rfl) ?_
        refine z_iconst X d_Mo_forget_14 ?_
        refine z_iast (ws' := (w_Mo k cA (uz g1 i (-1)) mK mT mn tk mB mZ mO mL fa fl oT mQ oF oS rm sm em tS tK tL)) X hw 1 rfl i (by omega) (by omega) (by decide) d_Mo_forget_15 rfl (fun H locs hw => ?_)
        refine z_iinc (lv' := [(1, .int (iI ((i + 1 : Nat):Int))), (0, .ref (k 0))]) (r := ((i + 1 : Nat):Int)) (k := 0) X d_Mo_forget_16 hl rfl (by omega) (by decide) rfl (fun ls hl => ?_)
        refine z_goto (tgt := 2) X d_Mo_forget_19 (by decide) ?_
        exact ih (i + 1) (uz g1 i (-1)) (by omega) (by omega) (uz_P (P := fun _ x => x = -1) h1 rfl) H locs ls hw (lv_sub hl [0, 1] rfl)
  refine z_iconst X d_Mo_forget_0 ?_
  refine z_istore_n (lv' := [(1, .int (iI 0)), (0, .ref (k 0))]) X d_Mo_forget_1 rfl hl (by decide) rfl (fun ls hl => ?_)
  exact lp1 201 0 mA (by omega) (by omega) (fun j hj => absurd hj (Nat.not_lt_zero j)) _ _ ls hw (lv_sub hl [0, 1] rfl)
def hM (q0 q1 q2 q3 q4 q5 q6 q7 q8 : Nat) : Nat → Nat := fun i => match i with | 0 => q0 | 1 => q1 | 2 => q2 | 3 => q3 | 4 => q4 | 5 => q5 | 6 => q6 | 7 => q7 | _ => q8
set_option maxHeartbeats 4000000 in
set_option maxRecDepth 100000 in
/-- a new model -/
theorem c_Mo_init (l : Launch) (D : va_G) (cA : Nat → ClassId)  (hs : Nat) (q : Nat) : Met l y_Mo_init (cW y_Mo_init b_Mo_init 1 none) { frames := 1, cells := 8, slots := 2620, locals := 21 } (zP [.ref q] D cA [(q, .inr (4, [.null, .null, .null, .int (iI 0), .int (iI 0), .null, .null, .null, .null, .int (iI 0), .int (iI 0), .int (iI 0), .null, .int (iI 0), .int (iI 0), .int (iI 0), .int (iI 0), .int (iI 0), .int (iI 0), .int (iI 0), .int (iI 0)]))] hs) (zQv (fun u : (Nat → Nat) × (Nat → Int) × (Nat → Int) => u.1 0 = q ∧ (∀ j, j < 200 → u.2.1 j = -1) ∧ ∀ j, j < 20 → u.2.2 j = -1) (fun u => (w_Mo u.1 cA u.2.1 u.2.2 (fun _ => 0) 0 0 (fun _ => 0) (fun _ => 0) (fun _ => 0) (fun _ => 0) (-1) 0 0 (fun _ => 0) 0 0 0 0 0 0 0 0)) D [(q, .inr (4, [.null, .null, .null, .int (iI 0), .int (iI 0), .null, .null, .null, .null, .int (iI 0), .int (iI 0), .int (iI 0), .null, .int (iI 0), .int (iI 0), .int (iI 0), .int (iI 0), .int (iI 0), .int (iI 0), .int (iI 0), .int (iI 0)]))] hs) 8 2620 (va_A [(q, .inr (4, [.null, .null, .null, .int (iI 0), .int (iI 0), .null, .null, .null, .null, .int (iI 0), .int (iI 0), .int (iI 0), .null, .int (iI 0), .int (iI 0), .int (iI 0), .int (iI 0), .int (iI 0), .int (iI 0), .int (iI 0), .int (iI 0)]))] hs) := by
  refine z_ofW (lv := [(0, .ref q)]) (by decide) (Nat.le_of_ble_eq_true rfl) rfl ?_
  intro p e s m below meth c ls hr hlk hnm X hhs hw hl
  have X : Cx p s m ([.ref q] : List Value).toArray c b_Mo_init 1 R_Mo D cA := X
  refine lv_aload_n X.1 X.2.1 d_Mo_init_0 rfl (lv_at hl 0 rfl) ?_
  refine z_objInit X m_ml_Mo_1 hl.1 d_Mo_init_1 (Nat.le_of_ble_eq_true rfl) (Nat.le_of_ble_eq_true rfl) ?_
  refine lv_aload_n X.1 X.2.1 d_Mo_init_4 rfl (lv_at hl 0 rfl) ?_
  refine z_sipush X d_Mo_init_5 (by decide) ?_
  refine z_newa X hw (ty := .int) rfl m_ac_int 1 rfl (fun C h => by cases h) 200 (by decide) (fun _ => rfl) rfl (by decide) (Nat.le_of_ble_eq_true rfl) (Nat.le_of_ble_eq_true rfl) d_Mo_init_8 (fun q_8 H hw => ?_)
  refine W.widen (k := 1) (n := 200) (by decide) (by decide) ?_
  have hw : Wd D (va_A [(q, .inr (4, [.null, .null, .null, .int (iI 0), .int (iI 0), .null, .null, .null, .null, .int (iI 0), .int (iI 0), .int (iI 0), .null, .int (iI 0), .int (iI 0), .int (iI 0), .int (iI 0), .int (iI 0), .int (iI 0), .int (iI 0), .int (iI 0)]))] hs) s.heap [(q, .inr (4, [.null, .null, .null, .int (iI 0), .int (iI 0), .null, .null, .null, .null, .int (iI 0), .int (iI 0), .int (iI 0), .null, .int (iI 0), .int (iI 0), .int (iI 0), .int (iI 0), .int (iI 0), .int (iI 0), .int (iI 0), .int (iI 0)])), (q_8, .inl (cA 1, 200, .inl (zf (fun _ => 0))))] H _ := hw
  refine z_putF (ws' := [(q, .inr (4, [.ref q_8, .null, .null, .int (iI 0), .int (iI 0), .null, .null, .null, .null, .int (iI 0), .int (iI 0), .int (iI 0), .null, .int (iI 0), .int (iI 0), .int (iI 0), .int (iI 0), .int (iI 0), .int (iI 0), .int (iI 0), .int (iI 0)])), (q_8, .inl (cA 1, 200, .inl (zf (fun _ => 0))))]) X hw hnm k_Mo 0 rfl 0 (by decide) rfl rfl rfl rfl (Nat.le_of_ble_eq_true rfl) m_fl_Mo_7 rfl d_Mo_init_10 rfl (fun H locs hw => ?_)
  refine lv_aload_n X.1 X.2.1 d_Mo_init_13 rfl (lv_at hl 0 rfl) ?_
  refine z_bipush X d_Mo_init_14 (by decide) ?_
  refine z_newa X hw (ty := .int) rfl m_ac_int 1 rfl (fun C h => by cases h) 20 (by decide) (fun _ => rfl) rfl (by decide) (Nat.le_of_ble_eq_true rfl) (Nat.le_of_ble_eq_true rfl) d_Mo_init_16 (fun q_16 H hw => ?_)
  refine W.widen (k := 2) (n := 220) (by decide) (by decide) ?_
  have hw : Wd D (va_A [(q, .inr (4, [.null, .null, .null, .int (iI 0), .int (iI 0), .null, .null, .null, .null, .int (iI 0), .int (iI 0), .int (iI 0), .null, .int (iI 0), .int (iI 0), .int (iI 0), .int (iI 0), .int (iI 0), .int (iI 0), .int (iI 0), .int (iI 0)]))] hs) s.heap [(q, .inr (4, [.ref q_8, .null, .null, .int (iI 0), .int (iI 0), .null, .null, .null, .null, .int (iI 0), .int (iI 0), .int (iI 0), .null, .int (iI 0), .int (iI 0), .int (iI 0), .int (iI 0), .int (iI 0), .int (iI 0), .int (iI 0), .int (iI 0)])), (q_8, .inl (cA 1, 200, .inl (zf (fun _ => 0)))), (q_16, .inl (cA 1, 20, .inl (zf (fun _ => 0))))] H _ := hw
  refine z_putF (ws' := [(q, .inr (4, [.ref q_8, .ref q_16, .null, .int (iI 0), .int (iI 0), .null, .null, .null, .null, .int (iI 0), .int (iI 0), .int (iI 0), .null, .int (iI 0), .int (iI 0), .int (iI 0), .int (iI 0), .int (iI 0), .int (iI 0), .int (iI 0), .int (iI 0)])), (q_8, .inl (cA 1, 200, .inl (zf (fun _ => 0)))), (q_16, .inl (cA 1, 20, .inl (zf (fun _ => 0))))]) X hw hnm k_Mo 0 rfl 1 (by decide) rfl rfl rfl rfl (Nat.le_of_ble_eq_true rfl) m_fl_Mo_13 rfl d_Mo_init_18 rfl (fun H locs hw => ?_)
  refine lv_aload_n X.1 X.2.1 d_Mo_init_21 rfl (lv_at hl 0 rfl) ?_
  refine z_sipush X d_Mo_init_22 (by decide) ?_
  refine z_newa X hw (ty := .int) rfl m_ac_int 1 rfl (fun C h => by cases h) 400 (by decide) (fun _ => rfl) rfl (by decide) (Nat.le_of_ble_eq_true rfl) (Nat.le_of_ble_eq_true rfl) d_Mo_init_25 (fun q_25 H hw => ?_)
  refine W.widen (k := 3) (n := 620) (by decide) (by decide) ?_
  have hw : Wd D (va_A [(q, .inr (4, [.null, .null, .null, .int (iI 0), .int (iI 0), .null, .null, .null, .null, .int (iI 0), .int (iI 0), .int (iI 0), .null, .int (iI 0), .int (iI 0), .int (iI 0), .int (iI 0), .int (iI 0), .int (iI 0), .int (iI 0), .int (iI 0)]))] hs) s.heap [(q, .inr (4, [.ref q_8, .ref q_16, .null, .int (iI 0), .int (iI 0), .null, .null, .null, .null, .int (iI 0), .int (iI 0), .int (iI 0), .null, .int (iI 0), .int (iI 0), .int (iI 0), .int (iI 0), .int (iI 0), .int (iI 0), .int (iI 0), .int (iI 0)])), (q_8, .inl (cA 1, 200, .inl (zf (fun _ => 0)))), (q_16, .inl (cA 1, 20, .inl (zf (fun _ => 0)))), (q_25, .inl (cA 1, 400, .inl (zf (fun _ => 0))))] H _ := hw
  refine z_putF (ws' := [(q, .inr (4, [.ref q_8, .ref q_16, .ref q_25, .int (iI 0), .int (iI 0), .null, .null, .null, .null, .int (iI 0), .int (iI 0), .int (iI 0), .null, .int (iI 0), .int (iI 0), .int (iI 0), .int (iI 0), .int (iI 0), .int (iI 0), .int (iI 0), .int (iI 0)])), (q_8, .inl (cA 1, 200, .inl (zf (fun _ => 0)))), (q_16, .inl (cA 1, 20, .inl (zf (fun _ => 0)))), (q_25, .inl (cA 1, 400, .inl (zf (fun _ => 0))))]) X hw hnm k_Mo 0 rfl 2 (by decide) rfl rfl rfl rfl (Nat.le_of_ble_eq_true rfl) m_fl_Mo_16 rfl d_Mo_init_27 rfl (fun H locs hw => ?_)
  refine lv_aload_n X.1 X.2.1 d_Mo_init_30 rfl (lv_at hl 0 rfl) ?_
  refine z_sipush X d_Mo_init_31 (by decide) ?_
  refine z_newa X hw (ty := .int) rfl m_ac_int 1 rfl (fun C h => by cases h) 400 (by decide) (fun _ => rfl) rfl (by decide) (Nat.le_of_ble_eq_true rfl) (Nat.le_of_ble_eq_true rfl) d_Mo_init_34 (fun q_34 H hw => ?_)
  refine W.widen (k := 4) (n := 1020) (by decide) (by decide) ?_
  have hw : Wd D (va_A [(q, .inr (4, [.null, .null, .null, .int (iI 0), .int (iI 0), .null, .null, .null, .null, .int (iI 0), .int (iI 0), .int (iI 0), .null, .int (iI 0), .int (iI 0), .int (iI 0), .int (iI 0), .int (iI 0), .int (iI 0), .int (iI 0), .int (iI 0)]))] hs) s.heap [(q, .inr (4, [.ref q_8, .ref q_16, .ref q_25, .int (iI 0), .int (iI 0), .null, .null, .null, .null, .int (iI 0), .int (iI 0), .int (iI 0), .null, .int (iI 0), .int (iI 0), .int (iI 0), .int (iI 0), .int (iI 0), .int (iI 0), .int (iI 0), .int (iI 0)])), (q_8, .inl (cA 1, 200, .inl (zf (fun _ => 0)))), (q_16, .inl (cA 1, 20, .inl (zf (fun _ => 0)))), (q_25, .inl (cA 1, 400, .inl (zf (fun _ => 0)))), (q_34, .inl (cA 1, 400, .inl (zf (fun _ => 0))))] H _ := hw
  refine z_putF (ws' := [(q, .inr (4, [.ref q_8, .ref q_16, .ref q_25, .int (iI 0), .int (iI 0), .ref q_34, .null, .null, .null, .int (iI 0), .int (iI 0), .int (iI 0), .null, .int (iI 0), .int (iI 0), .int (iI 0), .int (iI 0), .int (iI 0), .int (iI 0), .int (iI 0), .int (iI 0)])), (q_8, .inl (cA 1, 200, .inl (zf (fun _ => 0)))), (q_16, .inl (cA 1, 20, .inl (zf (fun _ => 0)))), (q_25, .inl (cA 1, 400, .inl (zf (fun _ => 0)))), (q_34, .inl (cA 1, 400, .inl (zf (fun _ => 0))))]) X hw hnm k_Mo 0 rfl 5 (by decide) rfl rfl rfl rfl (Nat.le_of_ble_eq_true rfl) m_fl_Mo_19 rfl d_Mo_init_36 rfl (fun H locs hw => ?_)
  refine lv_aload_n X.1 X.2.1 d_Mo_init_39 rfl (lv_at hl 0 rfl) ?_
  refine z_sipush X d_Mo_init_40 (by decide) ?_
  refine z_newa X hw (ty := .int) rfl m_ac_int 1 rfl (fun C h => by cases h) 400 (by decide) (fun _ => rfl) rfl (by decide) (Nat.le_of_ble_eq_true rfl) (Nat.le_of_ble_eq_true rfl) d_Mo_init_43 (fun q_43 H hw => ?_)
  refine W.widen (k := 5) (n := 1420) (by decide) (by decide) ?_
  have hw : Wd D (va_A [(q, .inr (4, [.null, .null, .null, .int (iI 0), .int (iI 0), .null, .null, .null, .null, .int (iI 0), .int (iI 0), .int (iI 0), .null, .int (iI 0), .int (iI 0), .int (iI 0), .int (iI 0), .int (iI 0), .int (iI 0), .int (iI 0), .int (iI 0)]))] hs) s.heap [(q, .inr (4, [.ref q_8, .ref q_16, .ref q_25, .int (iI 0), .int (iI 0), .ref q_34, .null, .null, .null, .int (iI 0), .int (iI 0), .int (iI 0), .null, .int (iI 0), .int (iI 0), .int (iI 0), .int (iI 0), .int (iI 0), .int (iI 0), .int (iI 0), .int (iI 0)])), (q_8, .inl (cA 1, 200, .inl (zf (fun _ => 0)))), (q_16, .inl (cA 1, 20, .inl (zf (fun _ => 0)))), (q_25, .inl (cA 1, 400, .inl (zf (fun _ => 0)))), (q_34, .inl (cA 1, 400, .inl (zf (fun _ => 0)))), (q_43, .inl (cA 1, 400, .inl (zf (fun _ => 0))))] H _ := hw
  refine z_putF (ws' := [(q, .inr (4, [.ref q_8, .ref q_16, .ref q_25, .int (iI 0), .int (iI 0), .ref q_34, .ref q_43, .null, .null, .int (iI 0), .int (iI 0), .int (iI 0), .null, .int (iI 0), .int (iI 0), .int (iI 0), .int (iI 0), .int (iI 0), .int (iI 0), .int (iI 0), .int (iI 0)])), (q_8, .inl (cA 1, 200, .inl (zf (fun _ => 0)))), (q_16, .inl (cA 1, 20, .inl (zf (fun _ => 0)))), (q_25, .inl (cA 1, 400, .inl (zf (fun _ => 0)))), (q_34, .inl (cA 1, 400, .inl (zf (fun _ => 0)))), (q_43, .inl (cA 1, 400, .inl (zf (fun _ => 0))))]) X hw hnm k_Mo 0 rfl 6 (by decide) rfl rfl rfl rfl (Nat.le_of_ble_eq_true rfl) m_fl_Mo_22 rfl d_Mo_init_45 rfl (fun H locs hw => ?_)
  refine lv_aload_n X.1 X.2.1 d_Mo_init_48 rfl (lv_at hl 0 rfl) ?_
  refine z_sipush X d_Mo_init_49 (by decide) ?_
  refine z_newa X hw (ty := .int) rfl m_ac_int 1 rfl (fun C h => by cases h) 400 (by decide) (fun _ => rfl) rfl (by decide) (Nat.le_of_ble_eq_true rfl) (Nat.le_of_ble_eq_true rfl) d_Mo_init_52 (fun q_52 H hw => ?_)
  refine W.widen (k := 6) (n := 1820) (by decide) (by decide) ?_
  have hw : Wd D (va_A [(q, .inr (4, [.null, .null, .null, .int (iI 0), .int (iI 0), .null, .null, .null, .null, .int (iI 0), .int (iI 0), .int (iI 0), .null, .int (iI 0), .int (iI 0), .int (iI 0), .int (iI 0), .int (iI 0), .int (iI 0), .int (iI 0), .int (iI 0)]))] hs) s.heap [(q, .inr (4, [.ref q_8, .ref q_16, .ref q_25, .int (iI 0), .int (iI 0), .ref q_34, .ref q_43, .null, .null, .int (iI 0), .int (iI 0), .int (iI 0), .null, .int (iI 0), .int (iI 0), .int (iI 0), .int (iI 0), .int (iI 0), .int (iI 0), .int (iI 0), .int (iI 0)])), (q_8, .inl (cA 1, 200, .inl (zf (fun _ => 0)))), (q_16, .inl (cA 1, 20, .inl (zf (fun _ => 0)))), (q_25, .inl (cA 1, 400, .inl (zf (fun _ => 0)))), (q_34, .inl (cA 1, 400, .inl (zf (fun _ => 0)))), (q_43, .inl (cA 1, 400, .inl (zf (fun _ => 0)))), (q_52, .inl (cA 1, 400, .inl (zf (fun _ => 0))))] H _ := hw
  refine z_putF (ws' := [(q, .inr (4, [.ref q_8, .ref q_16, .ref q_25, .int (iI 0), .int (iI 0), .ref q_34, .ref q_43, .ref q_52, .null, .int (iI 0), .int (iI 0), .int (iI 0), .null, .int (iI 0), .int (iI 0), .int (iI 0), .int (iI 0), .int (iI 0), .int (iI 0), .int (iI 0), .int (iI 0)])), (q_8, .inl (cA 1, 200, .inl (zf (fun _ => 0)))), (q_16, .inl (cA 1, 20, .inl (zf (fun _ => 0)))), (q_25, .inl (cA 1, 400, .inl (zf (fun _ => 0)))), (q_34, .inl (cA 1, 400, .inl (zf (fun _ => 0)))), (q_43, .inl (cA 1, 400, .inl (zf (fun _ => 0)))), (q_52, .inl (cA 1, 400, .inl (zf (fun _ => 0))))]) X hw hnm k_Mo 0 rfl 7 (by decide) rfl rfl rfl rfl (Nat.le_of_ble_eq_true rfl) m_fl_Mo_25 rfl d_Mo_init_54 rfl (fun H locs hw => ?_)
  refine lv_aload_n X.1 X.2.1 d_Mo_init_57 rfl (lv_at hl 0 rfl) ?_
  refine z_sipush X d_Mo_init_58 (by decide) ?_
  refine z_newa X hw (ty := .int) rfl m_ac_int 1 rfl (fun C h => by cases h) 400 (by decide) (fun _ => rfl) rfl (by decide) (Nat.le_of_ble_eq_true rfl) (Nat.le_of_ble_eq_true rfl) d_Mo_init_61 (fun q_61 H hw => ?_)
  refine W.widen (k := 7) (n := 2220) (by decide) (by decide) ?_
  have hw : Wd D (va_A [(q, .inr (4, [.null, .null, .null, .int (iI 0), .int (iI 0), .null, .null, .null, .null, .int (iI 0), .int (iI 0), .int (iI 0), .null, .int (iI 0), .int (iI 0), .int (iI 0), .int (iI 0), .int (iI 0), .int (iI 0), .int (iI 0), .int (iI 0)]))] hs) s.heap [(q, .inr (4, [.ref q_8, .ref q_16, .ref q_25, .int (iI 0), .int (iI 0), .ref q_34, .ref q_43, .ref q_52, .null, .int (iI 0), .int (iI 0), .int (iI 0), .null, .int (iI 0), .int (iI 0), .int (iI 0), .int (iI 0), .int (iI 0), .int (iI 0), .int (iI 0), .int (iI 0)])), (q_8, .inl (cA 1, 200, .inl (zf (fun _ => 0)))), (q_16, .inl (cA 1, 20, .inl (zf (fun _ => 0)))), (q_25, .inl (cA 1, 400, .inl (zf (fun _ => 0)))), (q_34, .inl (cA 1, 400, .inl (zf (fun _ => 0)))), (q_43, .inl (cA 1, 400, .inl (zf (fun _ => 0)))), (q_52, .inl (cA 1, 400, .inl (zf (fun _ => 0)))), (q_61, .inl (cA 1, 400, .inl (zf (fun _ => 0))))] H _ := hw
  refine z_putF (ws' := [(q, .inr (4, [.ref q_8, .ref q_16, .ref q_25, .int (iI 0), .int (iI 0), .ref q_34, .ref q_43, .ref q_52, .ref q_61, .int (iI 0), .int (iI 0), .int (iI 0), .null, .int (iI 0), .int (iI 0), .int (iI 0), .int (iI 0), .int (iI 0), .int (iI 0), .int (iI 0), .int (iI 0)])), (q_8, .inl (cA 1, 200, .inl (zf (fun _ => 0)))), (q_16, .inl (cA 1, 20, .inl (zf (fun _ => 0)))), (q_25, .inl (cA 1, 400, .inl (zf (fun _ => 0)))), (q_34, .inl (cA 1, 400, .inl (zf (fun _ => 0)))), (q_43, .inl (cA 1, 400, .inl (zf (fun _ => 0)))), (q_52, .inl (cA 1, 400, .inl (zf (fun _ => 0)))), (q_61, .inl (cA 1, 400, .inl (zf (fun _ => 0))))]) X hw hnm k_Mo 0 rfl 8 (by decide) rfl rfl rfl rfl (Nat.le_of_ble_eq_true rfl) m_fl_Mo_28 rfl d_Mo_init_63 rfl (fun H locs hw => ?_)
  refine lv_aload_n X.1 X.2.1 d_Mo_init_66 rfl (lv_at hl 0 rfl) ?_
  refine z_iconst X d_Mo_init_67 ?_
  refine z_put (ws' := [(q, .inr (4, [.ref q_8, .ref q_16, .ref q_25, .int (iI 0), .int (iI 0), .ref q_34, .ref q_43, .ref q_52, .ref q_61, .int (iI (-1)), .int (iI 0), .int (iI 0), .null, .int (iI 0), .int (iI 0), .int (iI 0), .int (iI 0), .int (iI 0), .int (iI 0), .int (iI 0), .int (iI 0)])), (q_8, .inl (cA 1, 200, .inl (zf (fun _ => 0)))), (q_16, .inl (cA 1, 20, .inl (zf (fun _ => 0)))), (q_25, .inl (cA 1, 400, .inl (zf (fun _ => 0)))), (q_34, .inl (cA 1, 400, .inl (zf (fun _ => 0)))), (q_43, .inl (cA 1, 400, .inl (zf (fun _ => 0)))), (q_52, .inl (cA 1, 400, .inl (zf (fun _ => 0)))), (q_61, .inl (cA 1, 400, .inl (zf (fun _ => 0))))]) X hw k_Mo 0 rfl 9 (by decide) rfl rfl (Nat.le_of_ble_eq_true rfl) m_fl_Mo_31 rfl d_Mo_init_68 rfl (fun H locs hw => ?_)
  refine lv_aload_n X.1 X.2.1 d_Mo_init_71 rfl (lv_at hl 0 rfl) ?_
  refine z_sipush X d_Mo_init_72 (by decide) ?_
  refine z_newa X hw (ty := .int) rfl m_ac_int 1 rfl (fun C h => by cases h) 400 (by decide) (fun _ => rfl) rfl (by decide) (Nat.le_of_ble_eq_true rfl) (Nat.le_of_ble_eq_true rfl) d_Mo_init_75 (fun q_75 H hw => ?_)
  refine W.widen (k := 8) (n := 2620) (by decide) (by decide) ?_
  have hw : Wd D (va_A [(q, .inr (4, [.null, .null, .null, .int (iI 0), .int (iI 0), .null, .null, .null, .null, .int (iI 0), .int (iI 0), .int (iI 0), .null, .int (iI 0), .int (iI 0), .int (iI 0), .int (iI 0), .int (iI 0), .int (iI 0), .int (iI 0), .int (iI 0)]))] hs) s.heap [(q, .inr (4, [.ref q_8, .ref q_16, .ref q_25, .int (iI 0), .int (iI 0), .ref q_34, .ref q_43, .ref q_52, .ref q_61, .int (iI (-1)), .int (iI 0), .int (iI 0), .null, .int (iI 0), .int (iI 0), .int (iI 0), .int (iI 0), .int (iI 0), .int (iI 0), .int (iI 0), .int (iI 0)])), (q_8, .inl (cA 1, 200, .inl (zf (fun _ => 0)))), (q_16, .inl (cA 1, 20, .inl (zf (fun _ => 0)))), (q_25, .inl (cA 1, 400, .inl (zf (fun _ => 0)))), (q_34, .inl (cA 1, 400, .inl (zf (fun _ => 0)))), (q_43, .inl (cA 1, 400, .inl (zf (fun _ => 0)))), (q_52, .inl (cA 1, 400, .inl (zf (fun _ => 0)))), (q_61, .inl (cA 1, 400, .inl (zf (fun _ => 0)))), (q_75, .inl (cA 1, 400, .inl (zf (fun _ => 0))))] H _ := hw
  refine z_putF (ws' := [(q, .inr (4, [.ref q_8, .ref q_16, .ref q_25, .int (iI 0), .int (iI 0), .ref q_34, .ref q_43, .ref q_52, .ref q_61, .int (iI (-1)), .int (iI 0), .int (iI 0), .ref q_75, .int (iI 0), .int (iI 0), .int (iI 0), .int (iI 0), .int (iI 0), .int (iI 0), .int (iI 0), .int (iI 0)])), (q_8, .inl (cA 1, 200, .inl (zf (fun _ => 0)))), (q_16, .inl (cA 1, 20, .inl (zf (fun _ => 0)))), (q_25, .inl (cA 1, 400, .inl (zf (fun _ => 0)))), (q_34, .inl (cA 1, 400, .inl (zf (fun _ => 0)))), (q_43, .inl (cA 1, 400, .inl (zf (fun _ => 0)))), (q_52, .inl (cA 1, 400, .inl (zf (fun _ => 0)))), (q_61, .inl (cA 1, 400, .inl (zf (fun _ => 0)))), (q_75, .inl (cA 1, 400, .inl (zf (fun _ => 0))))]) X hw hnm k_Mo 0 rfl 12 (by decide) rfl rfl rfl rfl (Nat.le_of_ble_eq_true rfl) m_fl_Mo_35 rfl d_Mo_init_77 rfl (fun H locs hw => ?_)
  refine lv_aload_n X.1 X.2.1 d_Mo_init_80 rfl (lv_at hl 0 rfl) ?_
  refine z_afterV (w2 := fun u => (w_Mo (hM q q_8 q_16 q_25 q_34 q_43 q_52 q_61 q_75) cA u.1 u.2 (fun _ => 0) 0 0 (fun _ => 0) (fun _ => 0) (fun _ => 0) (fun _ => 0) (-1) 0 0 (fun _ => 0) 0 0 0 0 0 0 0 0)) (wr := []) hw (z_runV (rest := []) X hw k_Mo v_Mo_38 [] (c_Mo_forget l D cA (hM q q_8 q_16 q_25 q_34 q_43 q_52 q_61 q_75) _ (fun _ => 0) (fun _ => 0) (fun _ => 0) (fun _ => 0) (fun _ => 0) (fun _ => 0) (fun _ => 0) (fun _ => 0) 0 0 (-1) 0 0 0 0 0 0 0 0 0 0) 0 rfl [0, 1, 2, 3, 4, 5, 6, 7, 8] rfl rfl rfl rfl hl.1 rfl (Nat.le_of_ble_eq_true rfl) ⟨rfl, rfl, Nat.le_of_ble_eq_true rfl, Nat.le_of_ble_eq_true rfl⟩ ⟨Nat.le_of_ble_eq_true rfl, Nat.le_of_ble_eq_true rfl⟩ d_Mo_init_81) [0, 1, 2, 3, 4, 5, 6, 7, 8] [] [0, 1, 2, 3, 4, 5, 6, 7, 8] rfl rfl rfl (by decide) rfl (fun _ => rfl) (fun _ => rfl) (fun u H locs hu hw => ?_)
  exact z_vret X hr hlk (hM q q_8 q_16 q_25 q_34 q_43 q_52 q_61 q_75, u.1, u.2) ⟨rfl, hu⟩ hw d_Mo_init_84
set_option maxHeartbeats 4000000 in
set_option maxRecDepth 100000 in
/-- not taken -/
theorem c_Mo_arrow_bad (l : Launch) (D : va_G) (cA : Nat → ClassId) (k : Nat → Nat) (hs : Nat) (mA mK mT mB mZ mO mL mQ : Nat → Int) (tk fa fl oT oF oS rm sm em tS tK tL : Int) (n : Nat) (z1 z2 z3 : Int) (hz1 : -2147483648 ≤ z1 ∧ z1 < 2147483648) (hz2 : -2147483648 ≤ z2 ∧ z2 < 2147483648) (hz3 : -2147483648 ≤ z3 ∧ z3 < 2147483648) (hn4 : n ≤ 400) (hbad : ¬ (0 ≤ z1 ∧ z1 < 20 ∧ 0 ≤ z2 ∧ z2 < 10 ∧ -1 ≤ z3 ∧ z3 < 20 ∧ n = 0)) : Met l y_Mo_arrow (cW y_Mo_arrow b_Mo_arrow 4 (some .boolean)) (rM 0 0) (zP [.ref (k 0), .int (iI z1), .int (iI z2), .int (iI z3)] D cA (w_Mo k cA mA mK mT (n:Int) tk mB mZ mO mL fa fl oT mQ oF oS rm sm em tS tK tL) hs) (Qro (fun z => z = 0)) 0 0 (fun _ => False) := by
  refine z_ofW (lv := [(0, .ref (k 0)), (1, .int (iI z1)), (2, .int (iI z2)), (3, .int (iI z3))]) (by decide) (Nat.le_of_ble_eq_true rfl) rfl ?_
  intro p e s m below meth c ls hr hlk hnm X hhs hw hl
  have X : Cx p s m ([.ref (k 0), .int (iI z1), .int (iI z2), .int (iI z3)] : List Value).toArray c b_Mo_arrow 4 R_Mo D cA := X
  refine lv_aload_n X.1 X.2.1 d_Mo_arrow_0 rfl (lv_at hl 0 rfl) ?_
  refine z_get X hw k_Mo 0 rfl 3 (by decide) rfl m_fl_Mo_41 rfl d_Mo_arrow_1 ?_
  refine z_if_gt (tgt := 38) X d_Mo_arrow_4 (by decide) (by omega) (fun c_4 => ?_) (fun c_4 => ?_)
  · refine z_iconst X d_Mo_arrow_38 ?_
    exact z_iretR X hr hlk (by decide) rfl d_Mo_arrow_39
  · refine lv_iload_n X.1 X.2.1 d_Mo_arrow_7 rfl (lv_at hl 1 rfl) ?_
    refine z_if_lt (tgt := 38) X d_Mo_arrow_8 (by decide) (by omega) (fun c_8 => ?_) (fun c_8 => ?_)
    · refine z_iconst X d_Mo_arrow_38 ?_
      exact z_iretR X hr hlk (by decide) rfl d_Mo_arrow_39
    · refine lv_iload_n X.1 X.2.1 d_Mo_arrow_11 rfl (lv_at hl 1 rfl) ?_
      refine z_bipush X d_Mo_arrow_12 (by decide) ?_
      refine z_icmp_ge (tgt := 38) X d_Mo_arrow_14 (by decide) (by omega) (by omega) (fun c_14 => ?_) (fun c_14 => ?_)
      · refine z_iconst X d_Mo_arrow_38 ?_
        exact z_iretR X hr hlk (by decide) rfl d_Mo_arrow_39
      · refine lv_iload_n X.1 X.2.1 d_Mo_arrow_17 rfl (lv_at hl 2 rfl) ?_
        refine z_if_lt (tgt := 38) X d_Mo_arrow_18 (by decide) (by omega) (fun c_18 => ?_) (fun c_18 => ?_)
        · refine z_iconst X d_Mo_arrow_38 ?_
          exact z_iretR X hr hlk (by decide) rfl d_Mo_arrow_39
        · refine lv_iload_n X.1 X.2.1 d_Mo_arrow_21 rfl (lv_at hl 2 rfl) ?_
          refine z_bipush X d_Mo_arrow_22 (by decide) ?_
          refine z_icmp_ge (tgt := 38) X d_Mo_arrow_24 (by decide) (by omega) (by omega) (fun c_24 => ?_) (fun c_24 => ?_)
          · refine z_iconst X d_Mo_arrow_38 ?_
            exact z_iretR X hr hlk (by decide) rfl d_Mo_arrow_39
          · refine lv_iload_n X.1 X.2.1 d_Mo_arrow_27 rfl (lv_at hl 3 rfl) ?_
            refine z_iconst X d_Mo_arrow_28 ?_
            refine z_icmp_lt (tgt := 38) X d_Mo_arrow_29 (by decide) (by omega) (by omega) (fun c_29 => ?_) (fun c_29 => ?_)
            · refine z_iconst X d_Mo_arrow_38 ?_
              exact z_iretR X hr hlk (by decide) rfl d_Mo_arrow_39
            · refine lv_iload_n X.1 X.2.1 d_Mo_arrow_32 rfl (lv_at hl 3 rfl) ?_
              refine z_bipush X d_Mo_arrow_33 (by decide) ?_
              refine z_icmp_lt (tgt := 40) X d_Mo_arrow_35 (by decide) (by omega) (by omega) (fun c_35 => ?_) (fun c_35 => ?_)
              · exfalso; omega
              · refine z_iconst X d_Mo_arrow_38 ?_
                exact z_iretR X hr hlk (by decide) rfl d_Mo_arrow_39
set_option maxHeartbeats 4000000 in
set_option maxRecDepth 100000 in
/-- not taken -/
theorem c_Mo_kind_bad (l : Launch) (D : va_G) (cA : Nat → ClassId) (k : Nat → Nat) (hs : Nat) (mA mK mT mB mZ mO mL mQ : Nat → Int) (tk fa fl oT oF oS rm sm em tS tK tL : Int) (n : Nat) (z1 z2 : Int) (hz1 : -2147483648 ≤ z1 ∧ z1 < 2147483648) (hz2 : -2147483648 ≤ z2 ∧ z2 < 2147483648) (hn4 : n ≤ 400) (hbad : ¬ (0 ≤ z1 ∧ z1 < 20 ∧ -1 ≤ z2 ∧ z2 < 100 ∧ n = 0)) : Met l y_Mo_kind (cW y_Mo_kind b_Mo_kind 3 (some .boolean)) (rM 0 0) (zP [.ref (k 0), .int (iI z1), .int (iI z2)] D cA (w_Mo k cA mA mK mT (n:Int) tk mB mZ mO mL fa fl oT mQ oF oS rm sm em tS tK tL) hs) (Qro (fun z => z = 0)) 0 0 (fun _ => False) := by
  refine z_ofW (lv := [(0, .ref (k 0)), (1, .int (iI z1)), (2, .int (iI z2))]) (by decide) (Nat.le_of_ble_eq_true rfl) rfl ?_
  intro p e s m below meth c ls hr hlk hnm X hhs hw hl
  have X : Cx p s m ([.ref (k 0), .int (iI z1), .int (iI z2)] : List Value).toArray c b_Mo_kind 3 R_Mo D cA := X
  refine lv_aload_n X.1 X.2.1 d_Mo_kind_0 rfl (lv_at hl 0 rfl) ?_
  refine z_get X hw k_Mo 0 rfl 3 (by decide) rfl m_fl_Mo_41 rfl d_Mo_kind_1 ?_
  refine z_if_gt (tgt := 28) X d_Mo_kind_4 (by decide) (by omega) (fun c_4 => ?_) (fun c_4 => ?_)
  · refine z_iconst X d_Mo_kind_28 ?_
    exact z_iretR X hr hlk (by decide) rfl d_Mo_kind_29
  · refine lv_iload_n X.1 X.2.1 d_Mo_kind_7 rfl (lv_at hl 1 rfl) ?_
    refine z_if_lt (tgt := 28) X d_Mo_kind_8 (by decide) (by omega) (fun c_8 => ?_) (fun c_8 => ?_)
    · refine z_iconst X d_Mo_kind_28 ?_
      exact z_iretR X hr hlk (by decide) rfl d_Mo_kind_29
    · refine lv_iload_n X.1 X.2.1 d_Mo_kind_11 rfl (lv_at hl 1 rfl) ?_
      refine z_bipush X d_Mo_kind_12 (by decide) ?_
      refine z_icmp_ge (tgt := 28) X d_Mo_kind_14 (by decide) (by omega) (by omega) (fun c_14 => ?_) (fun c_14 => ?_)
      · refine z_iconst X d_Mo_kind_28 ?_
        exact z_iretR X hr hlk (by decide) rfl d_Mo_kind_29
      · refine lv_iload_n X.1 X.2.1 d_Mo_kind_17 rfl (lv_at hl 2 rfl) ?_
        refine z_iconst X d_Mo_kind_18 ?_
        refine z_icmp_lt (tgt := 28) X d_Mo_kind_19 (by decide) (by omega) (by omega) (fun c_19 => ?_) (fun c_19 => ?_)
        · refine z_iconst X d_Mo_kind_28 ?_
          exact z_iretR X hr hlk (by decide) rfl d_Mo_kind_29
        · refine lv_iload_n X.1 X.2.1 d_Mo_kind_22 rfl (lv_at hl 2 rfl) ?_
          refine z_bipush X d_Mo_kind_23 (by decide) ?_
          refine z_icmp_le (tgt := 30) X d_Mo_kind_25 (by decide) (by omega) (by omega) (fun c_25 => ?_) (fun c_25 => ?_)
          · exfalso; omega
          · refine z_iconst X d_Mo_kind_28 ?_
            exact z_iretR X hr hlk (by decide) rfl d_Mo_kind_29
set_option maxHeartbeats 4000000 in
set_option maxRecDepth 100000 in
/-- taken -/
theorem c_Mo_arrow_good (l : Launch) (D : va_G) (cA : Nat → ClassId) (k : Nat → Nat) (hs : Nat) (mA mK mT mB mZ mO mL mQ : Nat → Int) (tk fa fl oT oF oS rm sm em tS tK tL : Int) (n : Nat) (st sx : Nat) (z3 : Int) (hst : st < 20) (hsx : sx < 10) (hz3 : -1 ≤ z3 ∧ z3 < 20) (hn0 : n = 0) : Met l y_Mo_arrow (cW y_Mo_arrow b_Mo_arrow 4 (some .boolean)) (rM 0 0) (zP [.ref (k 0), .int (iI (st:Int)), .int (iI (sx:Int)), .int (iI z3)] D cA (w_Mo k cA mA mK mT (n:Int) tk mB mZ mO mL fa fl oT mQ oF oS rm sm em tS tK tL) hs) (zQi (fun (z : Int) (_ : Unit) => z = 1) (fun _ => (w_Mo k cA (uz mA (10 * st + sx) z3) mK mT (n:Int) tk mB mZ mO mL fa fl oT mQ oF oS rm sm em tS tK tL)) D (w_Mo k cA mA mK mT (n:Int) tk mB mZ mO mL fa fl oT mQ oF oS rm sm em tS tK tL) hs) 0 0 (va_A (w_Mo k cA mA mK mT (n:Int) tk mB mZ mO mL fa fl oT mQ oF oS rm sm em tS tK tL) hs) := by
  refine z_ofW (lv := [(0, .ref (k 0)), (1, .int (iI (st:Int))), (2, .int (iI (sx:Int))), (3, .int (iI z3))]) (by decide) (Nat.le_of_ble_eq_true rfl) rfl ?_
  intro p e s m below meth c ls hr hlk hnm X hhs hw hl
  have X : Cx p s m ([.ref (k 0), .int (iI (st:Int)), .int (iI (sx:Int)), .int (iI z3)] : List Value).toArray c b_Mo_arrow 4 R_Mo D cA := X
  refine lv_aload_n X.1 X.2.1 d_Mo_arrow_0 rfl (lv_at hl 0 rfl) ?_
  refine z_get X hw k_Mo 0 rfl 3 (by decide) rfl m_fl_Mo_41 rfl d_Mo_arrow_1 ?_
  refine z_if_gt (tgt := 38) X d_Mo_arrow_4 (by decide) (by omega) (fun c_4 => ?_) (fun c_4 => ?_)
  · exfalso; omega
  · refine lv_iload_n X.1 X.2.1 d_Mo_arrow_7 rfl (lv_at hl 1 rfl) ?_
    refine z_if_lt (tgt := 38) X d_Mo_arrow_8 (by decide) (by omega) (fun c_8 => ?_) (fun c_8 => ?_)
    · exfalso; omega
    · refine lv_iload_n X.1 X.2.1 d_Mo_arrow_11 rfl (lv_at hl 1 rfl) ?_
      refine z_bipush X d_Mo_arrow_12 (by decide) ?_
      refine z_icmp_ge (tgt := 38) X d_Mo_arrow_14 (by decide) (by omega) (by omega) (fun c_14 => ?_) (fun c_14 => ?_)
      · exfalso; omega
      · refine lv_iload_n X.1 X.2.1 d_Mo_arrow_17 rfl (lv_at hl 2 rfl) ?_
        refine z_if_lt (tgt := 38) X d_Mo_arrow_18 (by decide) (by omega) (fun c_18 => ?_) (fun c_18 => ?_)
        · exfalso; omega
        · refine lv_iload_n X.1 X.2.1 d_Mo_arrow_21 rfl (lv_at hl 2 rfl) ?_
          refine z_bipush X d_Mo_arrow_22 (by decide) ?_
          refine z_icmp_ge (tgt := 38) X d_Mo_arrow_24 (by decide) (by omega) (by omega) (fun c_24 => ?_) (fun c_24 => ?_)
          · exfalso; omega
          · refine lv_iload_n X.1 X.2.1 d_Mo_arrow_27 rfl (lv_at hl 3 rfl) ?_
            refine z_iconst X d_Mo_arrow_28 ?_
            refine z_icmp_lt (tgt := 38) X d_Mo_arrow_29 (by decide) (by omega) (by omega) (fun c_29 => ?_) (fun c_29 => ?_)
            · exfalso; omega
            · refine lv_iload_n X.1 X.2.1 d_Mo_arrow_32 rfl (lv_at hl 3 rfl) ?_
              refine z_bipush X d_Mo_arrow_33 (by decide) ?_
              refine z_icmp_lt (tgt := 40) X d_Mo_arrow_35 (by decide) (by omega) (by omega) (fun c_35 => ?_) (fun c_35 => ?_)
              · refine lv_aload_n X.1 X.2.1 d_Mo_arrow_40 rfl (lv_at hl 0 rfl) ?_
                refine z_get X hw k_Mo 0 rfl 0 (by decide) rfl m_fl_Mo_7 rfl d_Mo_arrow_41 ?_
                refine z_bipush X d_Mo_arrow_44 (by decide) ?_
                refine lv_iload_n X.1 X.2.1 d_Mo_arrow_46 rfl (lv_at hl 1 rfl) ?_
                refine z_imul (r := (10 * (st:Int))) X d_Mo_arrow_47 rfl ?_
                refine lv_iload_n X.1 X.2.1 d_Mo_arrow_48 rfl (lv_at hl 2 rfl) ?_
                refine z_iadd (r := ((10 * (st:Int)) + (sx:Int))) X d_Mo_arrow_49 rfl ?_
                refine lv_iload_n X.1 X.2.1 d_Mo_arrow_50 rfl (lv_at hl 3 rfl) ?_
                refine z_iast (ws' := (w_Mo k cA (uz mA (10 * st + sx) z3) mK mT (n:Int) tk mB mZ mO mL fa fl oT mQ oF oS rm sm em tS tK tL)) X hw 1 rfl (10 * st + sx) (by omega) (by omega) (by decide) d_Mo_arrow_51 rfl (fun H locs hw => ?_)
                refine z_iconst X d_Mo_arrow_52 ?_
                exact z_iret X hr hlk (by decide) () rfl hw d_Mo_arrow_53
              · exfalso; omega
set_option maxHeartbeats 4000000 in
set_option maxRecDepth 100000 in
/-- taken -/
theorem c_Mo_kind_good (l : Launch) (D : va_G) (cA : Nat → ClassId) (k : Nat → Nat) (hs : Nat) (mA mK mT mB mZ mO mL mQ : Nat → Int) (tk fa fl oT oF oS rm sm em tS tK tL : Int) (n : Nat) (st : Nat) (z2 : Int) (hst : st < 20) (hz2 : -1 ≤ z2 ∧ z2 < 100) (hn0 : n = 0) : Met l y_Mo_kind (cW y_Mo_kind b_Mo_kind 3 (some .boolean)) (rM 0 0) (zP [.ref (k 0), .int (iI (st:Int)), .int (iI z2)] D cA (w_Mo k cA mA mK mT (n:Int) tk mB mZ mO mL fa fl oT mQ oF oS rm sm em tS tK tL) hs) (zQi (fun (z : Int) (_ : Unit) => z = 1) (fun _ => (w_Mo k cA mA (uz mK st z2) mT (n:Int) tk mB mZ mO mL fa fl oT mQ oF oS rm sm em tS tK tL)) D (w_Mo k cA mA mK mT (n:Int) tk mB mZ mO mL fa fl oT mQ oF oS rm sm em tS tK tL) hs) 0 0 (va_A (w_Mo k cA mA mK mT (n:Int) tk mB mZ mO mL fa fl oT mQ oF oS rm sm em tS tK tL) hs) := by
  refine z_ofW (lv := [(0, .ref (k 0)), (1, .int (iI (st:Int))), (2, .int (iI z2))]) (by decide) (Nat.le_of_ble_eq_true rfl) rfl ?_
  intro p e s m below meth c ls hr hlk hnm X hhs hw hl
  have X : Cx p s m ([.ref (k 0), .int (iI (st:Int)), .int (iI z2)] : List Value).toArray c b_Mo_kind 3 R_Mo D cA := X
  refine lv_aload_n X.1 X.2.1 d_Mo_kind_0 rfl (lv_at hl 0 rfl) ?_
  refine z_get X hw k_Mo 0 rfl 3 (by decide) rfl m_fl_Mo_41 rfl d_Mo_kind_1 ?_
  refine z_if_gt (tgt := 28) X d_Mo_kind_4 (by decide) (by omega) (fun c_4 => ?_) (fun c_4 => ?_)
  · exfalso; omega
  · refine lv_iload_n X.1 X.2.1 d_Mo_kind_7 rfl (lv_at hl 1 rfl) ?_
    refine z_if_lt (tgt := 28) X d_Mo_kind_8 (by decide) (by omega) (fun c_8 => ?_) (fun c_8 => ?_)
    · exfalso; omega
    · refine lv_iload_n X.1 X.2.1 d_Mo_kind_11 rfl (lv_at hl 1 rfl) ?_
      refine z_bipush X d_Mo_kind_12 (by decide) ?_
      refine z_icmp_ge (tgt := 28) X d_Mo_kind_14 (by decide) (by omega) (by omega) (fun c_14 => ?_) (fun c_14 => ?_)
      · exfalso; omega
      · refine lv_iload_n X.1 X.2.1 d_Mo_kind_17 rfl (lv_at hl 2 rfl) ?_
        refine z_iconst X d_Mo_kind_18 ?_
        refine z_icmp_lt (tgt := 28) X d_Mo_kind_19 (by decide) (by omega) (by omega) (fun c_19 => ?_) (fun c_19 => ?_)
        · exfalso; omega
        · refine lv_iload_n X.1 X.2.1 d_Mo_kind_22 rfl (lv_at hl 2 rfl) ?_
          refine z_bipush X d_Mo_kind_23 (by decide) ?_
          refine z_icmp_le (tgt := 30) X d_Mo_kind_25 (by decide) (by omega) (by omega) (fun c_25 => ?_) (fun c_25 => ?_)
          · refine lv_aload_n X.1 X.2.1 d_Mo_kind_30 rfl (lv_at hl 0 rfl) ?_
            refine z_get X hw k_Mo 0 rfl 1 (by decide) rfl m_fl_Mo_13 rfl d_Mo_kind_31 ?_
            refine lv_iload_n X.1 X.2.1 d_Mo_kind_34 rfl (lv_at hl 1 rfl) ?_
            refine lv_iload_n X.1 X.2.1 d_Mo_kind_35 rfl (lv_at hl 2 rfl) ?_
            refine z_iast (ws' := (w_Mo k cA mA (uz mK st z2) mT (n:Int) tk mB mZ mO mL fa fl oT mQ oF oS rm sm em tS tK tL)) X hw 2 rfl st (by omega) (by omega) (by decide) d_Mo_kind_36 rfl (fun H locs hw => ?_)
            refine z_iconst X d_Mo_kind_37 ?_
            exact z_iret X hr hlk (by decide) () rfl hw d_Mo_kind_38
          · exfalso; omega
set_option maxHeartbeats 4000000 in
set_option maxRecDepth 100000 in
/-- a scan -/
theorem c_Mo_scan (l : Launch) (D : va_G) (cA : Nat → ClassId) (k : Nat → Nat) (hs : Nat) (a kt t : Nat → Int) (n : Nat) (mA mK mT mB mZ mO mL mQ : Nat → Int) (tk fa fl oT oF oS rm sm em tS tK tL : Int) (ap : Nat) (hRg : Rg a kt t n) (hgA : ∀ j, j < 200 → mA j = a j) (hgK : ∀ j, j < 20 → mK j = kt j) (htx : ∀ i, i < n → mT i = t i) (hat : ap < n) : Met l y_Mo_scan (cW y_Mo_scan b_Mo_scan 4 (some .boolean)) (rM 0 0) (zP [.ref (k 0), .int (iI (ap:Int))] D cA (w_Mo k cA mA mK mT (n:Int) tk mB mZ mO mL fa fl oT mQ oF oS rm sm em tS tK tL) hs) (zQi (fun (z : Int) (u : Nat × Nat × Int) => u = sc a kt t n ap ∧ (z = 1 ∧ 0 < u.2.1 ∨ z = 0 ∧ u.2.1 = 0)) (fun u => (w_Mo k cA mA mK mT (n:Int) tk mB mZ mO mL fa fl oT mQ oF oS rm sm em (u.2.1 : Int) u.2.2 (u.1 : Int))) D (w_Mo k cA mA mK mT (n:Int) tk mB mZ mO mL fa fl oT mQ oF oS rm sm em tS tK tL) hs) 0 0 (va_A (w_Mo k cA mA mK mT (n:Int) tk mB mZ mO mL fa fl oT mQ oF oS rm sm em tS tK tL) hs) := by
  refine z_ofW (lv := [(0, .ref (k 0)), (1, .int (iI (ap:Int)))]) (by decide) (Nat.le_of_ble_eq_true rfl) rfl ?_
  intro p e s m below meth c ls hr hlk hnm X hhs hw hl
  have X : Cx p s m ([.ref (k 0), .int (iI (ap:Int))] : List Value).toArray c b_Mo_scan 4 R_Mo D cA := X
  have hn4 := hRg.2.2.2
  have lp : ∀ (f : Nat) (u : Nat) (st : Int) (l0 s0 : Nat) (k0 : Int), u < f → sl a kt t n ap u st l0 s0 k0 = sc a kt t n ap → (st = -1 ∨ (0 ≤ st ∧ st < 20 ∧ ap + l0 ≤ n)) → (st = -1 ∨ 402 ≤ l0 + u) → ∀ (H : Heap) (locs : List Loc) (ls : Array Slot), Wd D (va_A (w_Mo k cA mA mK mT (n:Int) tk mB mZ mO mL fa fl oT mQ oF oS rm sm em tS tK tL) hs) s.heap (w_Mo k cA mA mK mT (n:Int) tk mB mZ mO mL fa fl oT mQ oF oS rm sm em (s0:Int) k0 (l0:Int)) H locs → lv_has ls 4 [(3, .int (iI ((ap + l0 : Nat):Int))), (2, .int (iI st)), (0, .ref (k 0)), (1, .int (iI (ap:Int)))] → W p l e (rM 0 0) s m ([.ref (k 0), .int (iI (ap:Int))] : List Value).toArray below meth c H locs 0 0 (MQ below (zQi (fun (z : Int) (u : Nat × Nat × Int) => u = sc a kt t n ap ∧ (z = 1 ∧ 0 < u.2.1 ∨ z = 0 ∧ u.2.1 = 0)) (fun u => (w_Mo k cA mA mK mT (n:Int) tk mB mZ mO mL fa fl oT mQ oF oS rm sm em (u.2.1 : Int) u.2.2 (u.1 : Int))) D (w_Mo k cA mA mK mT (n:Int) tk mB mZ mO mL fa fl oT mQ oF oS rm sm em tS tK tL) hs) ([.ref (k 0), .int (iI (ap:Int))] : List Value).toArray s 0 0 (va_A (w_Mo k cA mA mK mT (n:Int) tk mB mZ mO mL fa fl oT mQ oF oS rm sm em tS tK tL) hs)) (F0 m 19 ls []) := by
    intro f
    induction f with
    | zero =>
      intro u st l0 s0 k0 hf hsl h1 h2 H locs ls hw hl
      exfalso; omega
    | succ f ih =>
      intro u st l0 s0 k0 hf hsl h1 h2 H locs ls hw hl
      refine lv_iload_n X.1 X.2.1 d_Mo_scan_19 rfl (lv_at hl 1 rfl) ?_
      refine z_if_lt (tgt := 98) X d_Mo_scan_20 (by decide) (by omega) (fun c_20 => ?_) (fun c_20 => ?_)
      · obtain rfl : st = -1 := by omega
        rw [sl_end] at hsl
        have hgf := sc_GF hRg ap hat
        rw [← hsl] at hgf
        dsimp only at hgf
        refine lv_aload_n X.1 X.2.1 d_Mo_scan_98 rfl (lv_at hl 2 rfl) ?_
        refine z_get X hw k_Mo 0 rfl 18 (by decide) rfl m_fl_Mo_59 rfl d_Mo_scan_99 ?_
        refine z_if_le (tgt := 109) X d_Mo_scan_102 (by decide) (by omega) (fun c_102 => ?_) (fun c_102 => ?_)
        · refine z_iconst X d_Mo_scan_109 ?_
          exact z_iret X hr hlk (by decide) (l0, s0, k0) ⟨hsl, Or.inr ⟨rfl, (by omega : s0 = 0)⟩⟩ hw d_Mo_scan_110
        · refine z_iconst X d_Mo_scan_105 ?_
          refine z_goto (tgt := 110) X d_Mo_scan_106 (by decide) ?_
          exact z_iret X hr hlk (by decide) (l0, s0, k0) ⟨hsl, Or.inl ⟨rfl, (by omega : 0 < s0)⟩⟩ hw d_Mo_scan_110
      · obtain ⟨sn, rfl⟩ : ∃ sn : Nat, st = (sn:Int) := ⟨st.toNat, by omega⟩
        obtain ⟨v, rfl⟩ : ∃ v : Nat, u = v + 1 := ⟨u - 1, by omega⟩
        obtain ⟨s2, hs2⟩ : ∃ s2 : Int, s2 = nx a sn (sy t n ((ap + l0 : Nat):Int)) := ⟨_, rfl⟩
        have q2 := nx_rg hRg (st := sn) (by omega) ((ap + l0 : Nat):Int)
        rw [← hs2] at q2
        refine lv_aload_n X.1 X.2.1 d_Mo_scan_23 rfl (lv_at hl 2 rfl) ?_
        refine lv_dup X.1 X.2.1 d_Mo_scan_24 rfl ?_
        refine z_get X hw k_Mo 0 rfl 20 (by decide) rfl m_fl_Mo_65 rfl d_Mo_scan_25 ?_
        refine z_iconst X d_Mo_scan_28 ?_
        refine z_iadd (r := ((l0 + 1 : Nat):Int)) X d_Mo_scan_29 (by omega) ?_
        refine z_put (ws' := (w_Mo k cA mA mK mT (n:Int) tk mB mZ mO mL fa fl oT mQ oF oS rm sm em (s0:Int) k0 ((l0 + 1 : Nat):Int))) X hw k_Mo 0 rfl 20 (by decide) rfl rfl (Nat.le_of_ble_eq_true rfl) m_fl_Mo_65 rfl d_Mo_scan_30 rfl (fun H locs hw => ?_)
        refine lv_iload_n X.1 X.2.1 d_Mo_scan_33 rfl (lv_at hl 0 rfl) ?_
        refine lv_aload_n X.1 X.2.1 d_Mo_scan_34 rfl (lv_at hl 2 rfl) ?_
        refine z_get X hw k_Mo 0 rfl 3 (by decide) rfl m_fl_Mo_41 rfl d_Mo_scan_35 ?_
        refine z_icmp_ge (tgt := 60) X d_Mo_scan_38 (by decide) (by omega) (by omega) (fun c_38 => ?_) (fun c_38 => ?_)
        · refine z_iconst X d_Mo_scan_60 ?_
          have hz2 : s2 = -1 := by rw [hs2]; unfold sy; rw [if_neg (by omega)]; rfl
          refine z_as (z := s2) hz2.symm ?_
          refine z_istore_n (lv' := [(2, .int (iI s2)), (3, .int (iI ((ap + l0 : Nat):Int))), (0, .ref (k 0)), (1, .int (iI (ap:Int)))]) X d_Mo_scan_61 rfl hl (by decide) rfl (fun ls hl => ?_)
          refine z_iinc (lv' := [(3, .int (iI ((ap + (l0 + 1) : Nat):Int))), (2, .int (iI s2)), (0, .ref (k 0)), (1, .int (iI (ap:Int)))]) (r := ((ap + (l0 + 1) : Nat):Int)) (k := 1) X d_Mo_scan_62 hl rfl (by omega) (by decide) rfl (fun ls hl => ?_)
          refine lv_iload_n X.1 X.2.1 d_Mo_scan_65 rfl (lv_at hl 1 rfl) ?_
          refine z_if_lt (tgt := 19) X d_Mo_scan_66 (by decide) (by omega) (fun c_66 => ?_) (fun c_66 => ?_)
          · exact ih v s2 (l0 + 1) s0 k0 (by omega) (by rw [← hsl]; exact (sl_no hs2 (by omega)).symm) (by omega) (by omega) H locs ls hw (lv_sub hl [0, 1, 2, 3] rfl)
          · have q_69 := hRg.2.1 s2.toNat (by omega)
            refine lv_aload_n X.1 X.2.1 d_Mo_scan_69 rfl (lv_at hl 2 rfl) ?_
            refine z_get X hw k_Mo 0 rfl 1 (by decide) rfl m_fl_Mo_13 rfl d_Mo_scan_70 ?_
            refine lv_iload_n X.1 X.2.1 d_Mo_scan_73 rfl (lv_at hl 1 rfl) ?_
            refine z_iald X hw 2 rfl s2.toNat (by omega) (by omega) (by decide) d_Mo_scan_74 ?_
            refine z_as (z := (kt s2.toNat)) (hgK _ (by omega)) ?_
            refine z_if_lt (tgt := 19) X d_Mo_scan_75 (by decide) (by omega) (fun c_75 => ?_) (fun c_75 => ?_)
            · exact ih v s2 (l0 + 1) s0 k0 (by omega) (by rw [← hsl]; exact (sl_no hs2 (by omega)).symm) (by omega) (by omega) H locs ls hw (lv_sub hl [0, 1, 2, 3] rfl)
            · refine lv_aload_n X.1 X.2.1 d_Mo_scan_78 rfl (lv_at hl 2 rfl) ?_
              refine lv_iload_n X.1 X.2.1 d_Mo_scan_79 rfl (lv_at hl 0 rfl) ?_
              refine lv_iload_n X.1 X.2.1 d_Mo_scan_80 rfl (lv_at hl 3 rfl) ?_
              refine z_isub (r := ((l0 + 1 : Nat):Int)) X d_Mo_scan_81 (by omega) ?_
              refine z_put (ws' := (w_Mo k cA mA mK mT (n:Int) tk mB mZ mO mL fa fl oT mQ oF oS rm sm em ((l0 + 1 : Nat):Int) k0 ((l0 + 1 : Nat):Int))) X hw k_Mo 0 rfl 18 (by decide) rfl rfl (Nat.le_of_ble_eq_true rfl) m_fl_Mo_59 rfl d_Mo_scan_82 rfl (fun H locs hw => ?_)
              refine lv_aload_n X.1 X.2.1 d_Mo_scan_85 rfl (lv_at hl 2 rfl) ?_
              refine lv_aload_n X.1 X.2.1 d_Mo_scan_86 rfl (lv_at hl 2 rfl) ?_
              refine z_get X hw k_Mo 0 rfl 1 (by decide) rfl m_fl_Mo_13 rfl d_Mo_scan_87 ?_
              refine lv_iload_n X.1 X.2.1 d_Mo_scan_90 rfl (lv_at hl 1 rfl) ?_
              refine z_iald X hw 2 rfl s2.toNat (by omega) (by omega) (by decide) d_Mo_scan_91 ?_
              refine z_as (z := (kt s2.toNat)) (hgK _ (by omega)) ?_
              refine z_put (ws' := (w_Mo k cA mA mK mT (n:Int) tk mB mZ mO mL fa fl oT mQ oF oS rm sm em ((l0 + 1 : Nat):Int) (kt s2.toNat) ((l0 + 1 : Nat):Int))) X hw k_Mo 0 rfl 19 (by decide) rfl rfl (Nat.le_of_ble_eq_true rfl) m_fl_Mo_62 rfl d_Mo_scan_92 rfl (fun H locs hw => ?_)
              refine z_goto (tgt := 19) X d_Mo_scan_95 (by decide) ?_
              exact ih v s2 (l0 + 1) (l0 + 1) (kt s2.toNat) (by omega) (by rw [← hsl]; exact (sl_yes hs2 (by omega) (by omega)).symm) (by omega) (by omega) H locs ls hw (lv_sub hl [0, 1, 2, 3] rfl)
        · have hti := hRg.2.2.1 (ap + l0) (by omega)
          refine lv_aload_n X.1 X.2.1 d_Mo_scan_41 rfl (lv_at hl 2 rfl) ?_
          refine z_get X hw k_Mo 0 rfl 0 (by decide) rfl m_fl_Mo_7 rfl d_Mo_scan_42 ?_
          refine z_bipush X d_Mo_scan_45 (by decide) ?_
          refine lv_iload_n X.1 X.2.1 d_Mo_scan_47 rfl (lv_at hl 1 rfl) ?_
          refine z_imul (r := (10 * (sn:Int))) X d_Mo_scan_48 rfl ?_
          refine lv_aload_n X.1 X.2.1 d_Mo_scan_49 rfl (lv_at hl 2 rfl) ?_
          refine z_get X hw k_Mo 0 rfl 2 (by decide) rfl m_fl_Mo_16 rfl d_Mo_scan_50 ?_
          refine lv_iload_n X.1 X.2.1 d_Mo_scan_53 rfl (lv_at hl 0 rfl) ?_
          refine z_iald X hw 3 rfl (ap + l0) (by omega) (by omega) (by decide) d_Mo_scan_54 ?_
          refine z_as (z := (t (ap + l0))) (htx _ (by omega)) ?_
          refine z_iadd (r := ((10 * (sn:Int)) + (t (ap + l0)))) X d_Mo_scan_55 rfl ?_
          refine z_iald X hw 1 rfl ((10 * (sn:Int) + t (ap + l0)).toNat) (by omega) (by omega) (by decide) d_Mo_scan_56 ?_
          refine z_goto (tgt := 61) X d_Mo_scan_57 (by decide) ?_
          refine z_as (z := s2) (by rw [hs2]; unfold sy; rw [if_pos (by omega), Int.toNat_natCast]; unfold nx; rw [if_neg (by omega)]; exact hgA _ (by omega)) ?_
          refine z_istore_n (lv' := [(2, .int (iI s2)), (3, .int (iI ((ap + l0 : Nat):Int))), (0, .ref (k 0)), (1, .int (iI (ap:Int)))]) X d_Mo_scan_61 rfl hl (by decide) rfl (fun ls hl => ?_)
          refine z_iinc (lv' := [(3, .int (iI ((ap + (l0 + 1) : Nat):Int))), (2, .int (iI s2)), (0, .ref (k 0)), (1, .int (iI (ap:Int)))]) (r := ((ap + (l0 + 1) : Nat):Int)) (k := 1) X d_Mo_scan_62 hl rfl (by omega) (by decide) rfl (fun ls hl => ?_)
          refine lv_iload_n X.1 X.2.1 d_Mo_scan_65 rfl (lv_at hl 1 rfl) ?_
          refine z_if_lt (tgt := 19) X d_Mo_scan_66 (by decide) (by omega) (fun c_66 => ?_) (fun c_66 => ?_)
          · exact ih v s2 (l0 + 1) s0 k0 (by omega) (by rw [← hsl]; exact (sl_no hs2 (by omega)).symm) (by omega) (by omega) H locs ls hw (lv_sub hl [0, 1, 2, 3] rfl)
          · have q_69 := hRg.2.1 s2.toNat (by omega)
            refine lv_aload_n X.1 X.2.1 d_Mo_scan_69 rfl (lv_at hl 2 rfl) ?_
            refine z_get X hw k_Mo 0 rfl 1 (by decide) rfl m_fl_Mo_13 rfl d_Mo_scan_70 ?_
            refine lv_iload_n X.1 X.2.1 d_Mo_scan_73 rfl (lv_at hl 1 rfl) ?_
            refine z_iald X hw 2 rfl s2.toNat (by omega) (by omega) (by decide) d_Mo_scan_74 ?_
            refine z_as (z := (kt s2.toNat)) (hgK _ (by omega)) ?_
            refine z_if_lt (tgt := 19) X d_Mo_scan_75 (by decide) (by omega) (fun c_75 => ?_) (fun c_75 => ?_)
            · exact ih v s2 (l0 + 1) s0 k0 (by omega) (by rw [← hsl]; exact (sl_no hs2 (by omega)).symm) (by omega) (by omega) H locs ls hw (lv_sub hl [0, 1, 2, 3] rfl)
            · refine lv_aload_n X.1 X.2.1 d_Mo_scan_78 rfl (lv_at hl 2 rfl) ?_
              refine lv_iload_n X.1 X.2.1 d_Mo_scan_79 rfl (lv_at hl 0 rfl) ?_
              refine lv_iload_n X.1 X.2.1 d_Mo_scan_80 rfl (lv_at hl 3 rfl) ?_
              refine z_isub (r := ((l0 + 1 : Nat):Int)) X d_Mo_scan_81 (by omega) ?_
              refine z_put (ws' := (w_Mo k cA mA mK mT (n:Int) tk mB mZ mO mL fa fl oT mQ oF oS rm sm em ((l0 + 1 : Nat):Int) k0 ((l0 + 1 : Nat):Int))) X hw k_Mo 0 rfl 18 (by decide) rfl rfl (Nat.le_of_ble_eq_true rfl) m_fl_Mo_59 rfl d_Mo_scan_82 rfl (fun H locs hw => ?_)
              refine lv_aload_n X.1 X.2.1 d_Mo_scan_85 rfl (lv_at hl 2 rfl) ?_
              refine lv_aload_n X.1 X.2.1 d_Mo_scan_86 rfl (lv_at hl 2 rfl) ?_
              refine z_get X hw k_Mo 0 rfl 1 (by decide) rfl m_fl_Mo_13 rfl d_Mo_scan_87 ?_
              refine lv_iload_n X.1 X.2.1 d_Mo_scan_90 rfl (lv_at hl 1 rfl) ?_
              refine z_iald X hw 2 rfl s2.toNat (by omega) (by omega) (by decide) d_Mo_scan_91 ?_
              refine z_as (z := (kt s2.toNat)) (hgK _ (by omega)) ?_
              refine z_put (ws' := (w_Mo k cA mA mK mT (n:Int) tk mB mZ mO mL fa fl oT mQ oF oS rm sm em ((l0 + 1 : Nat):Int) (kt s2.toNat) ((l0 + 1 : Nat):Int))) X hw k_Mo 0 rfl 19 (by decide) rfl rfl (Nat.le_of_ble_eq_true rfl) m_fl_Mo_62 rfl d_Mo_scan_92 rfl (fun H locs hw => ?_)
              refine z_goto (tgt := 19) X d_Mo_scan_95 (by decide) ?_
              exact ih v s2 (l0 + 1) (l0 + 1) (kt s2.toNat) (by omega) (by rw [← hsl]; exact (sl_yes hs2 (by omega) (by omega)).symm) (by omega) (by omega) H locs ls hw (lv_sub hl [0, 1, 2, 3] rfl)
  refine lv_aload_n X.1 X.2.1 d_Mo_scan_0 rfl (lv_at hl 0 rfl) ?_
  refine z_iconst X d_Mo_scan_1 ?_
  refine z_put (ws' := (w_Mo k cA mA mK mT (n:Int) tk mB mZ mO mL fa fl oT mQ oF oS rm sm em 0 tK tL)) X hw k_Mo 0 rfl 18 (by decide) rfl rfl (Nat.le_of_ble_eq_true rfl) m_fl_Mo_59 rfl d_Mo_scan_2 rfl (fun H locs hw => ?_)
  refine lv_aload_n X.1 X.2.1 d_Mo_scan_5 rfl (lv_at hl 0 rfl) ?_
  refine z_iconst X d_Mo_scan_6 ?_
  refine z_put (ws' := (w_Mo k cA mA mK mT (n:Int) tk mB mZ mO mL fa fl oT mQ oF oS rm sm em 0 (-1) tL)) X hw k_Mo 0 rfl 19 (by decide) rfl rfl (Nat.le_of_ble_eq_true rfl) m_fl_Mo_62 rfl d_Mo_scan_7 rfl (fun H locs hw => ?_)
  refine lv_aload_n X.1 X.2.1 d_Mo_scan_10 rfl (lv_at hl 0 rfl) ?_
  refine z_iconst X d_Mo_scan_11 ?_
  refine z_put (ws' := (w_Mo k cA mA mK mT (n:Int) tk mB mZ mO mL fa fl oT mQ oF oS rm sm em 0 (-1) 0)) X hw k_Mo 0 rfl 20 (by decide) rfl rfl (Nat.le_of_ble_eq_true rfl) m_fl_Mo_65 rfl d_Mo_scan_12 rfl (fun H locs hw => ?_)
  refine z_iconst X d_Mo_scan_15 ?_
  refine z_istore_n (lv' := [(2, .int (iI 0)), (0, .ref (k 0)), (1, .int (iI (ap:Int)))]) X d_Mo_scan_16 rfl hl (by decide) rfl (fun ls hl => ?_)
  refine lv_iload_n X.1 X.2.1 d_Mo_scan_17 rfl (lv_at hl 2 rfl) ?_
  refine z_istore_n (lv' := [(3, .int (iI (ap:Int))), (2, .int (iI 0)), (0, .ref (k 0)), (1, .int (iI (ap:Int)))]) X d_Mo_scan_18 rfl hl (by decide) rfl (fun ls hl => ?_)
  exact lp 403 402 0 0 0 (-1) (by omega) rfl (by omega) (by omega) _ _ ls hw (lv_sub hl [0, 1, 2, 3] rfl)
end
section
/-- the model's cells and what they mean -/
def MI (a kt t : Nat → Int) (n cn T : Nat) (mA mK mT mB mZ mO mL : Nat → Int) (fa fl : Int) : Prop := Rg a kt t n ∧ (∀ j, j < 200 → mA j = a j) ∧ (∀ j, j < 20 → mK j = kt j) ∧ (∀ i, i < n → mT i = t i) ∧ IsC (sc a kt t n) n cn ∧ TK (sc a kt t n) cn T ∧ (∀ j, j < T → It (sc a kt t n) (bg (sc a kt t n) j) (bg (sc a kt t n) j : Nat) mB mZ mL mO j) ∧ (T = cn ∧ fa = -1 ∧ fl = 0 ∨ T + 1 = cn ∧ fa = (bg (sc a kt t n) T : Nat) ∧ fl = ((sc a kt t n (bg (sc a kt t n) T)).1 : Nat))
theorem TK_uniq {F : Nat → Nat × Nat × Int} {cn T T' : Nat} (h : TK F cn T) (k : TK F cn T') : T = T' := by
  rcases h with ⟨h1, h2⟩ | ⟨h1, h2⟩ <;> rcases k with ⟨k1, k2⟩ | ⟨k1, k2⟩
  · omega
  · exact absurd h1 k1
  · exact absurd k1 h1
  · omega
set_option maxHeartbeats 4000000 in
set_option maxRecDepth 100000 in
/-- a token -/
theorem c_Mo_token (l : Launch) (D : va_G) (cA : Nat → ClassId) (k : Nat → Nat) (hs : Nat) (a kt t : Nat → Int) (n cn T : Nat) (mA mK mT mB mZ mO mL mQ : Nat → Int)( fa fl oT oF oS rm sm em tS tK tL : Int) (hI : MI a kt t n cn T mA mK mT mB mZ mO mL fa fl) (z1 z2 : Int) (hz1 : -2147483648 ≤ z1 ∧ z1 < 2147483648) (hz2 : -2147483648 ≤ z2 ∧ z2 < 2147483648) : Met l y_Mo_token (cW y_Mo_token b_Mo_token 3 (some .int)) (rM 0 0) (zP [.ref (k 0), .int (iI z1), .int (iI z2)] D cA (w_Mo k cA mA mK mT (n:Int) (T:Int) mB mZ mO mL fa fl oT mQ oF oS rm sm em tS tK tL) hs) (Qro (fun z => z = tkv (sc a kt t n) T z1 z2)) 0 0 (fun _ => False) := by
  refine z_ofW (lv := [(0, .ref (k 0)), (1, .int (iI z1)), (2, .int (iI z2))]) (by decide) (Nat.le_of_ble_eq_true rfl) rfl ?_
  intro p e s m below meth c ls hr hlk hnm X hhs hw hl
  have X : Cx p s m ([.ref (k 0), .int (iI z1), .int (iI z2)] : List Value).toArray c b_Mo_token 3 R_Mo D cA := X
  obtain ⟨hRg, hgA, hgK, htx, hC, hT, hit, hfl⟩ := hI
  have hn4 := hRg.2.2.2
  have hcle := IsC_le hC
  have hTc : T ≤ cn := by rcases hT with ⟨_, q⟩ | ⟨_, q⟩ <;> omega
  refine lv_iload_n X.1 X.2.1 d_Mo_token_0 rfl (lv_at hl 1 rfl) ?_
  refine z_if_lt (tgt := 12) X d_Mo_token_1 (by decide) (by omega) (fun c_1 => ?_) (fun c_1 => ?_)
  · refine z_iconst X d_Mo_token_12 ?_
    exact z_iretR X hr hlk rfl (by unfold tkv; rw [if_neg (by omega)]) d_Mo_token_13
  · refine lv_iload_n X.1 X.2.1 d_Mo_token_4 rfl (lv_at hl 1 rfl) ?_
    refine lv_aload_n X.1 X.2.1 d_Mo_token_5 rfl (lv_at hl 0 rfl) ?_
    refine z_get X hw k_Mo 0 rfl 4 (by decide) rfl m_fl_Mo_44 rfl d_Mo_token_6 ?_
    refine z_icmp_lt (tgt := 14) X d_Mo_token_9 (by decide) (by omega) (by omega) (fun c_9 => ?_) (fun c_9 => ?_)
    · obtain ⟨i, rfl⟩ : ∃ i : Nat, z1 = (i:Int) := ⟨z1.toNat, by omega⟩
      have hi := hit i (by omega)
      refine lv_iload_n X.1 X.2.1 d_Mo_token_14 rfl (lv_at hl 2 rfl) ?_
      refine z_if_ne (tgt := 27) X d_Mo_token_15 (by decide) (by omega) (fun c_15 => ?_) (fun c_15 => ?_)
      · refine lv_iload_n X.1 X.2.1 d_Mo_token_27 rfl (lv_at hl 2 rfl) ?_
        refine z_iconst X d_Mo_token_28 ?_
        refine z_icmp_ne (tgt := 41) X d_Mo_token_29 (by decide) (by omega) (by omega) (fun c_29 => ?_) (fun c_29 => ?_)
        · refine lv_iload_n X.1 X.2.1 d_Mo_token_41 rfl (lv_at hl 2 rfl) ?_
          refine z_iconst X d_Mo_token_42 ?_
          refine z_icmp_ne (tgt := 55) X d_Mo_token_43 (by decide) (by omega) (by omega) (fun c_43 => ?_) (fun c_43 => ?_)
          · refine lv_iload_n X.1 X.2.1 d_Mo_token_55 rfl (lv_at hl 2 rfl) ?_
            refine z_iconst X d_Mo_token_56 ?_
            refine z_icmp_ne (tgt := 69) X d_Mo_token_57 (by decide) (by omega) (by omega) (fun c_57 => ?_) (fun c_57 => ?_)
            · refine z_iconst X d_Mo_token_69 ?_
              exact z_iretR X hr hlk rfl (by unfold tkv; rw [if_pos (by omega), if_neg c_15, if_neg c_29, if_neg c_43, if_neg c_57]) d_Mo_token_70
            · refine lv_aload_n X.1 X.2.1 d_Mo_token_60 rfl (lv_at hl 0 rfl) ?_
              refine z_get X hw k_Mo 0 rfl 8 (by decide) rfl m_fl_Mo_28 rfl d_Mo_token_61 ?_
              refine lv_iload_n X.1 X.2.1 d_Mo_token_64 rfl (lv_at hl 1 rfl) ?_
              refine z_iald X hw 7 rfl i (by omega) (by omega) (by decide) d_Mo_token_65 ?_
              refine z_goto (tgt := 70) X d_Mo_token_66 (by decide) ?_
              exact z_iretR X hr hlk rfl (by unfold tkv; rw [if_pos (by omega), if_neg c_15, if_neg c_29, if_neg c_43, if_pos c_57]; exact hi.2.2.1) d_Mo_token_70
          · refine lv_aload_n X.1 X.2.1 d_Mo_token_46 rfl (lv_at hl 0 rfl) ?_
            refine z_get X hw k_Mo 0 rfl 7 (by decide) rfl m_fl_Mo_25 rfl d_Mo_token_47 ?_
            refine lv_iload_n X.1 X.2.1 d_Mo_token_50 rfl (lv_at hl 1 rfl) ?_
            refine z_iald X hw 6 rfl i (by omega) (by omega) (by decide) d_Mo_token_51 ?_
            refine z_goto (tgt := 70) X d_Mo_token_52 (by decide) ?_
            exact z_iretR X hr hlk rfl (by unfold tkv; rw [if_pos (by omega), if_neg c_15, if_neg c_29, if_pos c_43]; exact hi.2.2.2) d_Mo_token_70
        · refine lv_aload_n X.1 X.2.1 d_Mo_token_32 rfl (lv_at hl 0 rfl) ?_
          refine z_get X hw k_Mo 0 rfl 6 (by decide) rfl m_fl_Mo_22 rfl d_Mo_token_33 ?_
          refine lv_iload_n X.1 X.2.1 d_Mo_token_36 rfl (lv_at hl 1 rfl) ?_
          refine z_iald X hw 5 rfl i (by omega) (by omega) (by decide) d_Mo_token_37 ?_
          refine z_goto (tgt := 70) X d_Mo_token_38 (by decide) ?_
          exact z_iretR X hr hlk rfl (by unfold tkv; rw [if_pos (by omega), if_neg c_15, if_pos c_29]; exact hi.2.1) d_Mo_token_70
      · refine lv_aload_n X.1 X.2.1 d_Mo_token_18 rfl (lv_at hl 0 rfl) ?_
        refine z_get X hw k_Mo 0 rfl 5 (by decide) rfl m_fl_Mo_19 rfl d_Mo_token_19 ?_
        refine lv_iload_n X.1 X.2.1 d_Mo_token_22 rfl (lv_at hl 1 rfl) ?_
        refine z_iald X hw 4 rfl i (by omega) (by omega) (by decide) d_Mo_token_23 ?_
        refine z_goto (tgt := 70) X d_Mo_token_24 (by decide) ?_
        exact z_iretR X hr hlk rfl (by unfold tkv; rw [if_pos (by omega), if_pos c_15]; exact hi.1) d_Mo_token_70
    · refine z_iconst X d_Mo_token_12 ?_
      exact z_iretR X hr hlk rfl (by unfold tkv; rw [if_neg (by omega)]) d_Mo_token_13
set_option maxHeartbeats 4000000 in
set_option maxRecDepth 100000 in
/-- counts -/
theorem c_Mo_count (l : Launch) (D : va_G) (cA : Nat → ClassId) (k : Nat → Nat) (hs : Nat) (a kt t : Nat → Int) (n cn T : Nat) (mA mK mT mB mZ mO mL mQ : Nat → Int)( fa fl oT oF oS rm sm em tS tK tL : Int) (hI : MI a kt t n cn T mA mK mT mB mZ mO mL fa fl) (z1 : Int) (hz1 : -2147483648 ≤ z1 ∧ z1 < 2147483648) : Met l y_Mo_count (cW y_Mo_count b_Mo_count 2 (some .int)) (rM 0 0) (zP [.ref (k 0), .int (iI z1)] D cA (w_Mo k cA mA mK mT (n:Int) (T:Int) mB mZ mO mL fa fl oT mQ oF oS rm sm em tS tK tL) hs) (Qro (fun z => z = cnv (sc a kt t n) n cn T rm sm em z1)) 0 0 (fun _ => False) := by
  refine z_ofW (lv := [(0, .ref (k 0)), (1, .int (iI z1))]) (by decide) (Nat.le_of_ble_eq_true rfl) rfl ?_
  intro p e s m below meth c ls hr hlk hnm X hhs hw hl
  have X : Cx p s m ([.ref (k 0), .int (iI z1)] : List Value).toArray c b_Mo_count 2 R_Mo D cA := X
  obtain ⟨hRg, hgA, hgK, htx, hC, hT, hit, hfl⟩ := hI
  have hn4 := hRg.2.2.2
  have hcle := IsC_le hC
  have hTc : T ≤ cn := by rcases hT with ⟨_, q⟩ | ⟨_, q⟩ <;> omega
  refine lv_iload_n X.1 X.2.1 d_Mo_count_0 rfl (lv_at hl 1 rfl) ?_
  refine z_if_ne (tgt := 11) X d_Mo_count_1 (by decide) (by omega) (fun c_1 => ?_) (fun c_1 => ?_)
  · refine lv_iload_n X.1 X.2.1 d_Mo_count_11 rfl (lv_at hl 1 rfl) ?_
    refine z_iconst X d_Mo_count_12 ?_
    refine z_icmp_ne (tgt := 23) X d_Mo_count_13 (by decide) (by omega) (by omega) (fun c_13 => ?_) (fun c_13 => ?_)
    · refine lv_iload_n X.1 X.2.1 d_Mo_count_23 rfl (lv_at hl 1 rfl) ?_
      refine z_iconst X d_Mo_count_24 ?_
      refine z_icmp_ne (tgt := 35) X d_Mo_count_25 (by decide) (by omega) (by omega) (fun c_25 => ?_) (fun c_25 => ?_)
      · refine lv_iload_n X.1 X.2.1 d_Mo_count_35 rfl (lv_at hl 1 rfl) ?_
        refine z_iconst X d_Mo_count_36 ?_
        refine z_icmp_ne (tgt := 47) X d_Mo_count_37 (by decide) (by omega) (by omega) (fun c_37 => ?_) (fun c_37 => ?_)
        · refine lv_iload_n X.1 X.2.1 d_Mo_count_47 rfl (lv_at hl 1 rfl) ?_
          refine z_iconst X d_Mo_count_48 ?_
          refine z_icmp_ne (tgt := 59) X d_Mo_count_49 (by decide) (by omega) (by omega) (fun c_49 => ?_) (fun c_49 => ?_)
          · refine lv_iload_n X.1 X.2.1 d_Mo_count_59 rfl (lv_at hl 1 rfl) ?_
            refine z_iconst X d_Mo_count_60 ?_
            refine z_icmp_ne (tgt := 71) X d_Mo_count_61 (by decide) (by omega) (by omega) (fun c_61 => ?_) (fun c_61 => ?_)
            · refine lv_iload_n X.1 X.2.1 d_Mo_count_71 rfl (lv_at hl 1 rfl) ?_
              refine z_bipush X d_Mo_count_72 (by decide) ?_
              refine z_icmp_ne (tgt := 84) X d_Mo_count_74 (by decide) (by omega) (by omega) (fun c_74 => ?_) (fun c_74 => ?_)
              · refine z_iconst X d_Mo_count_84 ?_
                exact z_iretR X hr hlk rfl (by unfold cnv; rw [if_neg c_1, if_neg c_13, if_neg c_25, if_neg c_37, if_neg c_49, if_neg c_61, if_neg c_74]) d_Mo_count_85
              · refine lv_aload_n X.1 X.2.1 d_Mo_count_77 rfl (lv_at hl 0 rfl) ?_
                refine z_get X hw k_Mo 0 rfl 17 (by decide) rfl m_fl_Mo_56 rfl d_Mo_count_78 ?_
                refine z_goto (tgt := 85) X d_Mo_count_81 (by decide) ?_
                exact z_iretR X hr hlk rfl (by unfold cnv; rw [if_neg c_1, if_neg c_13, if_neg c_25, if_neg c_37, if_neg c_49, if_neg c_61, if_pos c_74]) d_Mo_count_85
            · refine lv_aload_n X.1 X.2.1 d_Mo_count_64 rfl (lv_at hl 0 rfl) ?_
              refine z_get X hw k_Mo 0 rfl 16 (by decide) rfl m_fl_Mo_53 rfl d_Mo_count_65 ?_
              refine z_goto (tgt := 85) X d_Mo_count_68 (by decide) ?_
              exact z_iretR X hr hlk rfl (by unfold cnv; rw [if_neg c_1, if_neg c_13, if_neg c_25, if_neg c_37, if_neg c_49, if_pos c_61]) d_Mo_count_85
          · refine lv_aload_n X.1 X.2.1 d_Mo_count_52 rfl (lv_at hl 0 rfl) ?_
            refine z_get X hw k_Mo 0 rfl 15 (by decide) rfl m_fl_Mo_50 rfl d_Mo_count_53 ?_
            refine z_goto (tgt := 85) X d_Mo_count_56 (by decide) ?_
            exact z_iretR X hr hlk rfl (by unfold cnv; rw [if_neg c_1, if_neg c_13, if_neg c_25, if_neg c_37, if_pos c_49]) d_Mo_count_85
        · refine lv_aload_n X.1 X.2.1 d_Mo_count_40 rfl (lv_at hl 0 rfl) ?_
          refine z_get X hw k_Mo 0 rfl 10 (by decide) rfl m_fl_Mo_47 rfl d_Mo_count_41 ?_
          refine z_goto (tgt := 85) X d_Mo_count_44 (by decide) ?_
          exact z_iretR X hr hlk rfl (by
            unfold cnv
            rw [if_neg c_1, if_neg c_13, if_neg c_25, if_pos c_37]
            rcases hfl with ⟨q1, q2, q3⟩ | ⟨q1, q2, q3⟩
            · rw [if_pos q1]; exact q3
            · rw [if_neg (by omega)]; exact q3) d_Mo_count_85
      · refine lv_aload_n X.1 X.2.1 d_Mo_count_28 rfl (lv_at hl 0 rfl) ?_
        refine z_get X hw k_Mo 0 rfl 9 (by decide) rfl m_fl_Mo_31 rfl d_Mo_count_29 ?_
        refine z_goto (tgt := 85) X d_Mo_count_32 (by decide) ?_
        exact z_iretR X hr hlk rfl (by
          unfold cnv
          rw [if_neg c_1, if_neg c_13, if_pos c_25]
          rcases hfl with ⟨q1, q2, q3⟩ | ⟨q1, q2, q3⟩
          · rw [if_pos q1]; exact q2
          · rw [if_neg (by omega)]; exact q2) d_Mo_count_85
    · refine lv_aload_n X.1 X.2.1 d_Mo_count_16 rfl (lv_at hl 0 rfl) ?_
      refine z_get X hw k_Mo 0 rfl 3 (by decide) rfl m_fl_Mo_41 rfl d_Mo_count_17 ?_
      refine z_goto (tgt := 85) X d_Mo_count_20 (by decide) ?_
      exact z_iretR X hr hlk rfl (by unfold cnv; rw [if_neg c_1, if_pos c_13]) d_Mo_count_85
  · refine lv_aload_n X.1 X.2.1 d_Mo_count_4 rfl (lv_at hl 0 rfl) ?_
    refine z_get X hw k_Mo 0 rfl 4 (by decide) rfl m_fl_Mo_44 rfl d_Mo_count_5 ?_
    refine z_goto (tgt := 85) X d_Mo_count_8 (by decide) ?_
    exact z_iretR X hr hlk rfl (by unfold cnv; rw [if_pos c_1]) d_Mo_count_85
set_option maxHeartbeats 4000000 in
set_option maxRecDepth 100000 in
/-- a symbol -/
theorem c_Mo_symbol (l : Launch) (D : va_G) (cA : Nat → ClassId) (k : Nat → Nat) (hs : Nat) (a kt t : Nat → Int) (n cn T : Nat) (mA mK mT mB mZ mO mL mQ : Nat → Int)( fa fl oT oF oS rm sm em tS tK tL : Int) (hI : MI a kt t n cn T mA mK mT mB mZ mO mL fa fl) (z1 : Int) (hz1 : -2147483648 ≤ z1 ∧ z1 < 2147483648) : Met l y_Mo_symbol (cW y_Mo_symbol b_Mo_symbol 2 (some .int)) (rM 0 0) (zP [.ref (k 0), .int (iI z1)] D cA (w_Mo k cA mA mK mT (n:Int) (T:Int) mB mZ mO mL fa fl oT mQ oF oS rm sm em tS tK tL) hs) (Qro (fun z => z = sy t n z1)) 0 0 (fun _ => False) := by
  refine z_ofW (lv := [(0, .ref (k 0)), (1, .int (iI z1))]) (by decide) (Nat.le_of_ble_eq_true rfl) rfl ?_
  intro p e s m below meth c ls hr hlk hnm X hhs hw hl
  have X : Cx p s m ([.ref (k 0), .int (iI z1)] : List Value).toArray c b_Mo_symbol 2 R_Mo D cA := X
  obtain ⟨hRg, hgA, hgK, htx, hC, hT, hit, hfl⟩ := hI
  have hn4 := hRg.2.2.2
  have hcle := IsC_le hC
  have hTc : T ≤ cn := by rcases hT with ⟨_, q⟩ | ⟨_, q⟩ <;> omega
  refine lv_iload_n X.1 X.2.1 d_Mo_symbol_0 rfl (lv_at hl 1 rfl) ?_
  refine z_if_lt (tgt := 21) X d_Mo_symbol_1 (by decide) (by omega) (fun c_1 => ?_) (fun c_1 => ?_)
  · refine z_iconst X d_Mo_symbol_21 ?_
    exact z_iretR X hr hlk rfl (by unfold sy; rw [if_neg (by omega)]) d_Mo_symbol_22
  · refine lv_iload_n X.1 X.2.1 d_Mo_symbol_4 rfl (lv_at hl 1 rfl) ?_
    refine lv_aload_n X.1 X.2.1 d_Mo_symbol_5 rfl (lv_at hl 0 rfl) ?_
    refine z_get X hw k_Mo 0 rfl 3 (by decide) rfl m_fl_Mo_41 rfl d_Mo_symbol_6 ?_
    refine z_icmp_ge (tgt := 21) X d_Mo_symbol_9 (by decide) (by omega) (by omega) (fun c_9 => ?_) (fun c_9 => ?_)
    · refine z_iconst X d_Mo_symbol_21 ?_
      exact z_iretR X hr hlk rfl (by unfold sy; rw [if_neg (by omega)]) d_Mo_symbol_22
    · refine lv_aload_n X.1 X.2.1 d_Mo_symbol_12 rfl (lv_at hl 0 rfl) ?_
      refine z_get X hw k_Mo 0 rfl 2 (by decide) rfl m_fl_Mo_16 rfl d_Mo_symbol_13 ?_
      refine lv_iload_n X.1 X.2.1 d_Mo_symbol_16 rfl (lv_at hl 1 rfl) ?_
      refine z_iald X hw 3 rfl z1.toNat (by omega) (by omega) (by decide) d_Mo_symbol_17 ?_
      refine z_goto (tgt := 22) X d_Mo_symbol_18 (by decide) ?_
      exact z_iretR X hr hlk rfl (by unfold sy; rw [if_pos (by omega)]; exact htx _ (by omega)) d_Mo_symbol_22
set_option maxHeartbeats 4000000 in
set_option maxRecDepth 100000 in
/-- the token at a place -/
theorem c_Mo_tokenAt (l : Launch) (D : va_G) (cA : Nat → ClassId) (k : Nat → Nat) (hs : Nat) (a kt t : Nat → Int) (n cn T : Nat) (mA mK mT mB mZ mO mL mQ : Nat → Int)( fa fl oT oF oS rm sm em tS tK tL : Int) (hI : MI a kt t n cn T mA mK mT mB mZ mO mL fa fl) (z1 : Int) (hz1 : -2147483648 ≤ z1 ∧ z1 < 2147483648) : Met l y_Mo_tokenAt (cW y_Mo_tokenAt b_Mo_tokenAt 4 (some .int)) (rM 0 0) (zP [.ref (k 0), .int (iI z1)] D cA (w_Mo k cA mA mK mT (n:Int) (T:Int) mB mZ mO mL fa fl oT mQ oF oS rm sm em tS tK tL) hs) (Qro (fun z => tA (sc a kt t n) T z1 z)) 0 0 (fun _ => False) := by
  refine z_ofW (lv := [(0, .ref (k 0)), (1, .int (iI z1))]) (by decide) (Nat.le_of_ble_eq_true rfl) rfl ?_
  intro p e s m below meth c ls hr hlk hnm X hhs hw hl
  have X : Cx p s m ([.ref (k 0), .int (iI z1)] : List Value).toArray c b_Mo_tokenAt 4 R_Mo D cA := X
  obtain ⟨hRg, hgA, hgK, htx, hC, hT, hit, hfl⟩ := hI
  have hn4 := hRg.2.2.2
  have hcle := IsC_le hC
  have hTc : T ≤ cn := by rcases hT with ⟨_, q⟩ | ⟨_, q⟩ <;> omega
  have lp : ∀ (f : Nat) (i : Nat) (b : Int), i ≤ T → T < f + i → tA (sc a kt t n) i z1 b → ∀ (ls : Array Slot), lv_has ls 4 [(3, .int (iI (i:Int))), (2, .int (iI b)), (0, .ref (k 0)), (1, .int (iI z1))] → W p l e (rM 0 0) s m ([.ref (k 0), .int (iI z1)] : List Value).toArray below meth c s.heap [] 0 0 (MQ below (Qro (fun z => tA (sc a kt t n) T z1 z)) ([.ref (k 0), .int (iI z1)] : List Value).toArray s 0 0 (fun _ => False)) (F0 m 4 ls []) := by
    intro f
    induction f with
    | zero =>
      intro i b hi hf hb ls hl
      exfalso; omega
    | succ f ih =>
      intro i b hi hf hb ls hl
      refine lv_iload_n X.1 X.2.1 d_Mo_tokenAt_4 rfl (lv_at hl 0 rfl) ?_
      refine lv_aload_n X.1 X.2.1 d_Mo_tokenAt_5 rfl (lv_at hl 2 rfl) ?_
      refine z_get X hw k_Mo 0 rfl 4 (by decide) rfl m_fl_Mo_44 rfl d_Mo_tokenAt_6 ?_
      refine z_icmp_ge (tgt := 51) X d_Mo_tokenAt_9 (by decide) (by omega) (by omega) (fun c_9 => ?_) (fun c_9 => ?_)
      · refine lv_iload_n X.1 X.2.1 d_Mo_tokenAt_51 rfl (lv_at hl 1 rfl) ?_
        obtain rfl : i = T := by omega
        exact z_iretR X hr hlk rfl hb d_Mo_tokenAt_52
      · have hi := hit i (by omega)
        have hbi := hC.1 i (by omega)
        have hgf := sc_GF hRg _ hbi
        refine lv_iload_n X.1 X.2.1 d_Mo_tokenAt_12 rfl (lv_at hl 3 rfl) ?_
        refine lv_aload_n X.1 X.2.1 d_Mo_tokenAt_13 rfl (lv_at hl 2 rfl) ?_
        refine z_get X hw k_Mo 0 rfl 5 (by decide) rfl m_fl_Mo_19 rfl d_Mo_tokenAt_14 ?_
        refine lv_iload_n X.1 X.2.1 d_Mo_tokenAt_17 rfl (lv_at hl 0 rfl) ?_
        refine z_iald X hw 4 rfl i (by omega) (by omega) (by decide) d_Mo_tokenAt_18 ?_
        refine z_as (z := ((bg (sc a kt t n) i : Nat):Int)) hi.1 ?_
        refine z_icmp_lt (tgt := 43) X d_Mo_tokenAt_19 (by decide) (by omega) (by omega) (fun c_19 => ?_) (fun c_19 => ?_)
        · refine lv_iload_n X.1 X.2.1 d_Mo_tokenAt_43 rfl (lv_at hl 1 rfl) ?_
          refine z_istore_n (lv' := [(2, .int (iI b)), (3, .int (iI (i:Int))), (0, .ref (k 0)), (1, .int (iI z1))]) X d_Mo_tokenAt_44 rfl hl (by decide) rfl (fun ls hl => ?_)
          refine z_iinc (lv' := [(3, .int (iI ((i + 1 : Nat):Int))), (2, .int (iI b)), (0, .ref (k 0)), (1, .int (iI z1))]) (r := ((i + 1 : Nat):Int)) (k := 1) X d_Mo_tokenAt_45 hl rfl (by omega) (by decide) rfl (fun ls hl => ?_)
          refine z_goto (tgt := 4) X d_Mo_tokenAt_48 (by decide) ?_
          exact ih (i + 1) b (by omega) (by omega) (by
            rcases hb with ⟨h1, h2⟩ | ⟨j, h1, h2, h3, h4⟩
            · refine Or.inl ⟨h1, fun j hj w => ?_⟩
              by_cases q : j = i
              · subst q; omega
              · exact h2 j (by omega) w
            · exact Or.inr ⟨j, by omega, h2, h3, h4⟩) ls (lv_sub hl [0, 1, 2, 3] rfl)
        · refine lv_iload_n X.1 X.2.1 d_Mo_tokenAt_22 rfl (lv_at hl 3 rfl) ?_
          refine lv_aload_n X.1 X.2.1 d_Mo_tokenAt_23 rfl (lv_at hl 2 rfl) ?_
          refine z_get X hw k_Mo 0 rfl 5 (by decide) rfl m_fl_Mo_19 rfl d_Mo_tokenAt_24 ?_
          refine lv_iload_n X.1 X.2.1 d_Mo_tokenAt_27 rfl (lv_at hl 0 rfl) ?_
          refine z_iald X hw 4 rfl i (by omega) (by omega) (by decide) d_Mo_tokenAt_28 ?_
          refine z_as (z := ((bg (sc a kt t n) i : Nat):Int)) hi.1 ?_
          refine lv_aload_n X.1 X.2.1 d_Mo_tokenAt_29 rfl (lv_at hl 2 rfl) ?_
          refine z_get X hw k_Mo 0 rfl 6 (by decide) rfl m_fl_Mo_22 rfl d_Mo_tokenAt_30 ?_
          refine lv_iload_n X.1 X.2.1 d_Mo_tokenAt_33 rfl (lv_at hl 0 rfl) ?_
          refine z_iald X hw 5 rfl i (by omega) (by omega) (by decide) d_Mo_tokenAt_34 ?_
          refine z_as (z := ((((sc a kt t n) (bg (sc a kt t n) i)).2.1 : Nat):Int)) hi.2.1 ?_
          refine z_iadd (r := (((bg (sc a kt t n) i : Nat):Int) + ((((sc a kt t n) (bg (sc a kt t n) i)).2.1 : Nat):Int))) X d_Mo_tokenAt_35 rfl ?_
          refine z_icmp_ge (tgt := 43) X d_Mo_tokenAt_36 (by decide) (by omega) (by omega) (fun c_36 => ?_) (fun c_36 => ?_)
          · refine lv_iload_n X.1 X.2.1 d_Mo_tokenAt_43 rfl (lv_at hl 1 rfl) ?_
            refine z_istore_n (lv' := [(2, .int (iI b)), (3, .int (iI (i:Int))), (0, .ref (k 0)), (1, .int (iI z1))]) X d_Mo_tokenAt_44 rfl hl (by decide) rfl (fun ls hl => ?_)
            refine z_iinc (lv' := [(3, .int (iI ((i + 1 : Nat):Int))), (2, .int (iI b)), (0, .ref (k 0)), (1, .int (iI z1))]) (r := ((i + 1 : Nat):Int)) (k := 1) X d_Mo_tokenAt_45 hl rfl (by omega) (by decide) rfl (fun ls hl => ?_)
            refine z_goto (tgt := 4) X d_Mo_tokenAt_48 (by decide) ?_
            exact ih (i + 1) b (by omega) (by omega) (by
              rcases hb with ⟨h1, h2⟩ | ⟨j, h1, h2, h3, h4⟩
              · refine Or.inl ⟨h1, fun j hj w => ?_⟩
                by_cases q : j = i
                · subst q; omega
                · exact h2 j (by omega) w
              · exact Or.inr ⟨j, by omega, h2, h3, h4⟩) ls (lv_sub hl [0, 1, 2, 3] rfl)
          · refine lv_iload_n X.1 X.2.1 d_Mo_tokenAt_39 rfl (lv_at hl 0 rfl) ?_
            refine z_goto (tgt := 44) X d_Mo_tokenAt_40 (by decide) ?_
            refine z_istore_n (lv' := [(2, .int (iI (i:Int))), (3, .int (iI (i:Int))), (0, .ref (k 0)), (1, .int (iI z1))]) X d_Mo_tokenAt_44 rfl hl (by decide) rfl (fun ls hl => ?_)
            refine z_iinc (lv' := [(3, .int (iI ((i + 1 : Nat):Int))), (2, .int (iI (i:Int))), (0, .ref (k 0)), (1, .int (iI z1))]) (r := ((i + 1 : Nat):Int)) (k := 1) X d_Mo_tokenAt_45 hl rfl (by omega) (by decide) rfl (fun ls hl => ?_)
            refine z_goto (tgt := 4) X d_Mo_tokenAt_48 (by decide) ?_
            exact ih (i + 1) (i:Int) (by omega) (by omega) (Or.inr ⟨i, by omega, rfl, by omega, by omega⟩) ls (lv_sub hl [0, 1, 2, 3] rfl)
  refine z_iconst X d_Mo_tokenAt_0 ?_
  refine z_istore_n (lv' := [(2, .int (iI (-1))), (0, .ref (k 0)), (1, .int (iI z1))]) X d_Mo_tokenAt_1 rfl hl (by decide) rfl (fun ls hl => ?_)
  refine z_iconst X d_Mo_tokenAt_2 ?_
  refine z_istore_n (lv' := [(3, .int (iI 0)), (2, .int (iI (-1))), (0, .ref (k 0)), (1, .int (iI z1))]) X d_Mo_tokenAt_3 rfl hl (by decide) rfl (fun ls hl => ?_)
  exact lp (T + 1) 0 (-1) (by omega) (by omega) (Or.inl ⟨rfl, fun j hj => absurd hj (Nat.not_lt_zero j)⟩) ls (lv_sub hl [0, 1, 2, 3] rfl)
set_option maxHeartbeats 4000000 in
set_option maxRecDepth 100000 in
/-- all anew -/
theorem c_Mo_clear (l : Launch) (D : va_G) (cA : Nat → ClassId) (k : Nat → Nat) (hs : Nat) (a kt t : Nat → Int) (n cn T : Nat) (mA mK mT mB mZ mO mL mQ : Nat → Int)( fa fl oT oF oS rm sm em tS tK tL : Int) (hI : MI a kt t n cn T mA mK mT mB mZ mO mL fa fl) : Met l y_Mo_clear (cW y_Mo_clear b_Mo_clear 2 (some .int)) (rM 1 21) (zP [.ref (k 0)] D cA (w_Mo k cA mA mK mT (n:Int) (T:Int) mB mZ mO mL fa fl oT mQ oF oS rm sm em tS tK tL) hs) (zQi (fun (z : Int) (u : (Nat → Int) × (Nat → Int)) => z = (T:Int) ∧ (∀ j, j < 200 → u.1 j = -1) ∧ ∀ j, j < 20 → u.2 j = -1) (fun u => (w_Mo k cA u.1 u.2 mT 0 0 mB mZ mO mL (-1) 0 oT mQ oF oS 0 0 0 tS tK tL)) D (w_Mo k cA mA mK mT (n:Int) (T:Int) mB mZ mO mL fa fl oT mQ oF oS rm sm em tS tK tL) hs) 0 0 (va_A (w_Mo k cA mA mK mT (n:Int) (T:Int) mB mZ mO mL fa fl oT mQ oF oS rm sm em tS tK tL) hs) := by
  refine z_ofW (lv := [(0, .ref (k 0))]) (by decide) (Nat.le_of_ble_eq_true rfl) rfl ?_
  intro p e s m below meth c ls hr hlk hnm X hhs hw hl
  have X : Cx p s m ([.ref (k 0)] : List Value).toArray c b_Mo_clear 2 R_Mo D cA := X
  refine lv_aload_n X.1 X.2.1 d_Mo_clear_0 rfl (lv_at hl 0 rfl) ?_
  refine z_get X hw k_Mo 0 rfl 4 (by decide) rfl m_fl_Mo_44 rfl d_Mo_clear_1 ?_
  refine z_istore_n (lv' := [(1, .int (iI (T:Int))), (0, .ref (k 0))]) X d_Mo_clear_4 rfl hl (by decide) rfl (fun ls hl => ?_)
  refine lv_aload_n X.1 X.2.1 d_Mo_clear_5 rfl (lv_at hl 1 rfl) ?_
  refine z_afterV (w2 := fun u => (w_Mo k cA u.1 u.2 mT 0 0 mB mZ mO mL (-1) 0 oT mQ oF oS 0 0 0 tS tK tL)) (wr := []) hw (z_runV (rest := []) X hw k_Mo v_Mo_38 [] (c_Mo_forget l D cA k _ mA mK mT mB mZ mO mL mQ (n:Int) (T:Int) fa fl oT oF oS rm sm em tS tK tL) 0 rfl [0, 1, 2, 3, 4, 5, 6, 7, 8] rfl rfl rfl rfl hl.1 rfl (Nat.le_of_ble_eq_true rfl) ⟨rfl, rfl, Nat.le_of_ble_eq_true rfl, Nat.le_of_ble_eq_true rfl⟩ ⟨Nat.le_of_ble_eq_true rfl, Nat.le_of_ble_eq_true rfl⟩ d_Mo_clear_6) [0, 1, 2, 3, 4, 5, 6, 7, 8] [] [0, 1, 2, 3, 4, 5, 6, 7, 8] rfl rfl rfl (by decide) rfl (fun _ => rfl) (fun _ => rfl) (fun u_6 H locs hu_6 hw => ?_)
  refine lv_iload_n X.1 X.2.1 d_Mo_clear_9 rfl (lv_at hl 0 rfl) ?_
  exact z_iret X hr hlk rfl u_6 ⟨rfl, hu_6⟩ hw d_Mo_clear_10
set_option maxHeartbeats 4000000 in
set_option maxRecDepth 100000 in
/-- the whole text is scanned -/
theorem c_Mo_scanAll (l : Launch) (D : va_G) (cA : Nat → ClassId) (k : Nat → Nat) (hs : Nat) (a kt t : Nat → Int) (n : Nat) (mA mK mT mB mZ mO mL mQ : Nat → Int) (tk fa fl oT oF oS rm sm em tS tK tL : Int) (hRg : Rg a kt t n) (hgA : ∀ j, j < 200 → mA j = a j) (hgK : ∀ j, j < 20 → mK j = kt j) (htx : ∀ i, i < n → mT i = t i) : Met l y_Mo_scanAll (cW y_Mo_scanAll b_Mo_scanAll 2 none) (rM 1 23) (zP [.ref (k 0)] D cA (w_Mo k cA mA mK mT (n:Int) tk mB mZ mO mL fa fl oT mQ oF oS rm sm em tS tK tL) hs) (zQv (fun u : Nat × Nat × (Nat → Int) × (Nat → Int) × (Nat → Int) × (Nat → Int) × Int × Int × Int × Int × Int => MI a kt t n u.1 u.2.1 mA mK mT u.2.2.1 u.2.2.2.1 u.2.2.2.2.1 u.2.2.2.2.2.1 u.2.2.2.2.2.2.1 u.2.2.2.2.2.2.2.1) (fun u => (w_Mo k cA mA mK mT (n:Int) (u.2.1:Int) u.2.2.1 u.2.2.2.1 u.2.2.2.2.1 u.2.2.2.2.2.1 u.2.2.2.2.2.2.1 u.2.2.2.2.2.2.2.1 oT mQ oF oS rm sm em u.2.2.2.2.2.2.2.2.1 u.2.2.2.2.2.2.2.2.2.1 u.2.2.2.2.2.2.2.2.2.2)) D (w_Mo k cA mA mK mT (n:Int) tk mB mZ mO mL fa fl oT mQ oF oS rm sm em tS tK tL) hs) 0 0 (va_A (w_Mo k cA mA mK mT (n:Int) tk mB mZ mO mL fa fl oT mQ oF oS rm sm em tS tK tL) hs) := by
  refine z_ofW (lv := [(0, .ref (k 0))]) (by decide) (Nat.le_of_ble_eq_true rfl) rfl ?_
  intro p e s m below meth c ls hr hlk hnm X hhs hw hl
  have X : Cx p s m ([.ref (k 0)] : List Value).toArray c b_Mo_scanAll 2 R_Mo D cA := X
  have hn4 := hRg.2.2.2
  have hg1 := sc_GF hRg
  have lp : ∀ (f : Nat) (i : Nat) (b1 z1 o1 l1 : Nat → Int) (f1 f2 y1 y2 y3 : Int), bg (sc a kt t n) i ≤ n → (∀ u, u < i → It (sc a kt t n) (bg (sc a kt t n) u) (bg (sc a kt t n) u : Nat) b1 z1 l1 o1 u) → (∀ u, u < i → bg (sc a kt t n) u < n) → (f1 = -1 ∧ f2 = 0 ∧ n + 2 ≤ f + bg (sc a kt t n) i ∧ (∀ u, u < i → 0 < ((sc a kt t n) (bg (sc a kt t n) u)).2.1) ∨ f1 = ((bg (sc a kt t n) i : Nat):Int) ∧ f2 = ((((sc a kt t n) (bg (sc a kt t n) i)).1 : Nat):Int) ∧ 1 ≤ f ∧ bg (sc a kt t n) i < n ∧ (∀ u, u < i → 0 < ((sc a kt t n) (bg (sc a kt t n) u)).2.1) ∧ ((sc a kt t n) (bg (sc a kt t n) i)).2.1 = 0) → ∀ (H : Heap) (locs : List Loc) (ls : Array Slot), Wd D (va_A (w_Mo k cA mA mK mT (n:Int) tk mB mZ mO mL fa fl oT mQ oF oS rm sm em tS tK tL) hs) s.heap (w_Mo k cA mA mK mT (n:Int) (i:Int) b1 z1 o1 l1 f1 f2 oT mQ oF oS rm sm em y1 y2 y3) H locs → lv_has ls 2 [(1, .int (iI ((bg (sc a kt t n) i : Nat):Int))), (0, .ref (k 0))] → W p l e (rM 1 23) s m ([.ref (k 0)] : List Value).toArray below meth c H locs 0 0 (MQ below (zQv (fun u : Nat × Nat × (Nat → Int) × (Nat → Int) × (Nat → Int) × (Nat → Int) × Int × Int × Int × Int × Int => MI a kt t n u.1 u.2.1 mA mK mT u.2.2.1 u.2.2.2.1 u.2.2.2.2.1 u.2.2.2.2.2.1 u.2.2.2.2.2.2.1 u.2.2.2.2.2.2.2.1) (fun u => (w_Mo k cA mA mK mT (n:Int) (u.2.1:Int) u.2.2.1 u.2.2.2.1 u.2.2.2.2.1 u.2.2.2.2.2.1 u.2.2.2.2.2.2.1 u.2.2.2.2.2.2.2.1 oT mQ oF oS rm sm em u.2.2.2.2.2.2.2.2.1 u.2.2.2.2.2.2.2.2.2.1 u.2.2.2.2.2.2.2.2.2.2)) D (w_Mo k cA mA mK mT (n:Int) tk mB mZ mO mL fa fl oT mQ oF oS rm sm em tS tK tL) hs) ([.ref (k 0)] : List Value).toArray s 0 0 (va_A (w_Mo k cA mA mK mT (n:Int) tk mB mZ mO mL fa fl oT mQ oF oS rm sm em tS tK tL) hs)) (F0 m 17 ls []) := by
    intro f
    induction f with
    | zero =>
      intro i b1 z1 o1 l1 f1 f2 y1 y2 y3 hat hL hlt hb H locs ls hw hl
      exfalso; omega
    | succ f ih =>
      intro i b1 z1 o1 l1 f1 f2 y1 y2 y3 hat hL hlt hb H locs ls hw hl
      refine lv_iload_n X.1 X.2.1 d_Mo_scanAll_17 rfl (lv_at hl 0 rfl) ?_
      refine lv_aload_n X.1 X.2.1 d_Mo_scanAll_18 rfl (lv_at hl 1 rfl) ?_
      refine z_get X hw k_Mo 0 rfl 3 (by decide) rfl m_fl_Mo_41 rfl d_Mo_scanAll_19 ?_
      refine z_icmp_ge (tgt := 125) X d_Mo_scanAll_22 (by decide) (by omega) (by omega) (fun c_22 => ?_) (fun c_22 => ?_)
      · rcases hb with ⟨q1, q2, q3, q4⟩ | ⟨q1, q2, q3, q4, q5, q6⟩
        · subst q1
          subst q2
          have hbn : bg (sc a kt t n) i = n := by omega
          have hnf : ¬ Fl (sc a kt t n) i := fun w => by
            have := q4 (i - 1) (by have := w.1; omega)
            have := w.2
            omega
          exact z_vret X hr hlk (i, i, b1, z1, o1, l1, -1, 0, y1, y2, y3) ⟨hRg, hgA, hgK, htx, IsC_fin hlt q4 hbn, Or.inr ⟨hnf, rfl⟩, hL, Or.inl ⟨rfl, rfl, rfl⟩⟩ hw d_Mo_scanAll_125
        · have hcc : IsC (sc a kt t n) n (i + 1) := ⟨fun u hu => by
            by_cases e0 : u = i
            · rw [e0]; exact q4
            · exact hlt u (by omega), fun u hu => q5 u (by omega), Or.inr ⟨by omega, q6⟩⟩
          exact z_vret X hr hlk (i + 1, i, b1, z1, o1, l1, f1, f2, y1, y2, y3) ⟨hRg, hgA, hgK, htx, hcc, Or.inl ⟨⟨by omega, q6⟩, rfl⟩, hL, Or.inr ⟨rfl, q1, q2⟩⟩ hw d_Mo_scanAll_125
      · refine lv_aload_n X.1 X.2.1 d_Mo_scanAll_25 rfl (lv_at hl 1 rfl) ?_
        refine z_get X hw k_Mo 0 rfl 9 (by decide) rfl m_fl_Mo_31 rfl d_Mo_scanAll_26 ?_
        refine z_if_ge (tgt := 125) X d_Mo_scanAll_29 (by decide) (by omega) (fun c_29 => ?_) (fun c_29 => ?_)
        · rcases hb with ⟨q1, q2, q3, q4⟩ | ⟨q1, q2, q3, q4, q5, q6⟩
          · subst q1
            subst q2
            have hbn : bg (sc a kt t n) i = n := by omega
            have hnf : ¬ Fl (sc a kt t n) i := fun w => by
              have := q4 (i - 1) (by have := w.1; omega)
              have := w.2
              omega
            exact z_vret X hr hlk (i, i, b1, z1, o1, l1, -1, 0, y1, y2, y3) ⟨hRg, hgA, hgK, htx, IsC_fin hlt q4 hbn, Or.inr ⟨hnf, rfl⟩, hL, Or.inl ⟨rfl, rfl, rfl⟩⟩ hw d_Mo_scanAll_125
          · have hcc : IsC (sc a kt t n) n (i + 1) := ⟨fun u hu => by
              by_cases e0 : u = i
              · rw [e0]; exact q4
              · exact hlt u (by omega), fun u hu => q5 u (by omega), Or.inr ⟨by omega, q6⟩⟩
            exact z_vret X hr hlk (i + 1, i, b1, z1, o1, l1, f1, f2, y1, y2, y3) ⟨hRg, hgA, hgK, htx, hcc, Or.inl ⟨⟨by omega, q6⟩, rfl⟩, hL, Or.inr ⟨rfl, q1, q2⟩⟩ hw d_Mo_scanAll_125
        · obtain ⟨hf1, hf2, hmf, hpos⟩ : f1 = -1 ∧ f2 = 0 ∧ n + 2 ≤ f + 1 + bg (sc a kt t n) i ∧ (∀ u, u < i → 0 < ((sc a kt t n) (bg (sc a kt t n) u)).2.1) := by
            rcases hb with q | q
            · exact q
            · omega
          subst hf1
          subst hf2
          have hgf := hg1 (bg (sc a kt t n) i) (by omega)
          have hii := bg_all i hpos
          have hbs : bg (sc a kt t n) (i + 1) = bg (sc a kt t n) i + ((sc a kt t n) (bg (sc a kt t n) i)).2.1 := rfl
          refine lv_aload_n X.1 X.2.1 d_Mo_scanAll_32 rfl (lv_at hl 1 rfl) ?_
          refine lv_iload_n X.1 X.2.1 d_Mo_scanAll_33 rfl (lv_at hl 0 rfl) ?_
          refine z_afterI (w2 := fun u => (w_Mo k cA mA mK mT (n:Int) (i:Int) b1 z1 o1 l1 (-1) 0 oT mQ oF oS rm sm em (u.2.1:Int) u.2.2 (u.1:Int))) (wr := []) hw (z_runV (rest := []) X hw k_Mo v_Mo_68 [.int (iI ((bg (sc a kt t n) i : Nat):Int))] (c_Mo_scan l D cA k _ a kt t n mA mK mT b1 z1 o1 l1 mQ (i:Int) (-1) 0 oT oF oS rm sm em y1 y2 y3 (bg (sc a kt t n) i) hRg hgA hgK htx (by omega)) 0 rfl [0, 1, 2, 3, 4, 5, 6, 7, 8] rfl rfl rfl rfl hl.1 rfl (Nat.le_of_ble_eq_true rfl) ⟨rfl, rfl, Nat.le_of_ble_eq_true rfl, Nat.le_of_ble_eq_true rfl⟩ ⟨Nat.le_of_ble_eq_true rfl, Nat.le_of_ble_eq_true rfl⟩ d_Mo_scanAll_34) [0, 1, 2, 3, 4, 5, 6, 7, 8] [] [0, 1, 2, 3, 4, 5, 6, 7, 8] rfl rfl rfl (by decide) rfl (fun _ => rfl) (fun _ => rfl) (fun z_34 u_34 H locs hu_34 hw => ?_)
          obtain ⟨hu0, hu1⟩ := hu_34
          subst hu0
          refine z_if_eq (tgt := 109) X d_Mo_scanAll_37 (by decide) (by rcases hu1 with ⟨q, _⟩ | ⟨q, _⟩ <;> omega) (fun c_37 => ?_) (fun c_37 => ?_)
          · have hsz : ((sc a kt t n) (bg (sc a kt t n) i)).2.1 = 0 := by rcases hu1 with ⟨q, _⟩ | ⟨_, q⟩ <;> omega
            refine lv_aload_n X.1 X.2.1 d_Mo_scanAll_109 rfl (lv_at hl 1 rfl) ?_
            refine lv_iload_n X.1 X.2.1 d_Mo_scanAll_110 rfl (lv_at hl 0 rfl) ?_
            refine z_put (ws' := (w_Mo k cA mA mK mT (n:Int) (i:Int) b1 z1 o1 l1 ((bg (sc a kt t n) i : Nat):Int) 0 oT mQ oF oS rm sm em ((((sc a kt t n) (bg (sc a kt t n) i)).2.1 : Nat):Int) (((sc a kt t n) (bg (sc a kt t n) i)).2.2) ((((sc a kt t n) (bg (sc a kt t n) i)).1 : Nat):Int))) X hw k_Mo 0 rfl 9 (by decide) rfl rfl (Nat.le_of_ble_eq_true rfl) m_fl_Mo_31 rfl d_Mo_scanAll_111 rfl (fun H locs hw => ?_)
            refine lv_aload_n X.1 X.2.1 d_Mo_scanAll_114 rfl (lv_at hl 1 rfl) ?_
            refine lv_aload_n X.1 X.2.1 d_Mo_scanAll_115 rfl (lv_at hl 1 rfl) ?_
            refine z_get X hw k_Mo 0 rfl 20 (by decide) rfl m_fl_Mo_65 rfl d_Mo_scanAll_116 ?_
            refine z_put (ws' := (w_Mo k cA mA mK mT (n:Int) (i:Int) b1 z1 o1 l1 ((bg (sc a kt t n) i : Nat):Int) ((((sc a kt t n) (bg (sc a kt t n) i)).1 : Nat):Int) oT mQ oF oS rm sm em ((((sc a kt t n) (bg (sc a kt t n) i)).2.1 : Nat):Int) (((sc a kt t n) (bg (sc a kt t n) i)).2.2) ((((sc a kt t n) (bg (sc a kt t n) i)).1 : Nat):Int))) X hw k_Mo 0 rfl 10 (by decide) rfl rfl (Nat.le_of_ble_eq_true rfl) m_fl_Mo_47 rfl d_Mo_scanAll_119 rfl (fun H locs hw => ?_)
            refine z_goto (tgt := 17) X d_Mo_scanAll_122 (by decide) ?_
            exact ih i b1 z1 o1 l1 ((bg (sc a kt t n) i : Nat):Int) ((((sc a kt t n) (bg (sc a kt t n) i)).1 : Nat):Int) ((((sc a kt t n) (bg (sc a kt t n) i)).2.1 : Nat):Int) (((sc a kt t n) (bg (sc a kt t n) i)).2.2) ((((sc a kt t n) (bg (sc a kt t n) i)).1 : Nat):Int) hat hL hlt (Or.inr ⟨rfl, rfl, by omega, by omega, hpos, hsz⟩) H locs ls hw (lv_sub hl [0, 1] rfl)
          · have hsp : 0 < ((sc a kt t n) (bg (sc a kt t n) i)).2.1 := by rcases hu1 with ⟨_, q⟩ | ⟨q, _⟩ <;> omega
            refine lv_aload_n X.1 X.2.1 d_Mo_scanAll_40 rfl (lv_at hl 1 rfl) ?_
            refine z_get X hw k_Mo 0 rfl 5 (by decide) rfl m_fl_Mo_19 rfl d_Mo_scanAll_41 ?_
            refine lv_aload_n X.1 X.2.1 d_Mo_scanAll_44 rfl (lv_at hl 1 rfl) ?_
            refine z_get X hw k_Mo 0 rfl 4 (by decide) rfl m_fl_Mo_44 rfl d_Mo_scanAll_45 ?_
            refine lv_iload_n X.1 X.2.1 d_Mo_scanAll_48 rfl (lv_at hl 0 rfl) ?_
            refine z_iast (ws' := (w_Mo k cA mA mK mT (n:Int) (i:Int) (uz b1 i ((bg (sc a kt t n) i : Nat):Int)) z1 o1 l1 (-1) 0 oT mQ oF oS rm sm em ((((sc a kt t n) (bg (sc a kt t n) i)).2.1 : Nat):Int) (((sc a kt t n) (bg (sc a kt t n) i)).2.2) ((((sc a kt t n) (bg (sc a kt t n) i)).1 : Nat):Int))) X hw 4 rfl i (by omega) (by omega) (by decide) d_Mo_scanAll_49 rfl (fun H locs hw => ?_)
            refine lv_aload_n X.1 X.2.1 d_Mo_scanAll_50 rfl (lv_at hl 1 rfl) ?_
            refine z_get X hw k_Mo 0 rfl 6 (by decide) rfl m_fl_Mo_22 rfl d_Mo_scanAll_51 ?_
            refine lv_aload_n X.1 X.2.1 d_Mo_scanAll_54 rfl (lv_at hl 1 rfl) ?_
            refine z_get X hw k_Mo 0 rfl 4 (by decide) rfl m_fl_Mo_44 rfl d_Mo_scanAll_55 ?_
            refine lv_aload_n X.1 X.2.1 d_Mo_scanAll_58 rfl (lv_at hl 1 rfl) ?_
            refine z_get X hw k_Mo 0 rfl 18 (by decide) rfl m_fl_Mo_59 rfl d_Mo_scanAll_59 ?_
            refine z_iast (ws' := (w_Mo k cA mA mK mT (n:Int) (i:Int) (uz b1 i ((bg (sc a kt t n) i : Nat):Int)) (uz z1 i ((((sc a kt t n) (bg (sc a kt t n) i)).2.1 : Nat):Int)) o1 l1 (-1) 0 oT mQ oF oS rm sm em ((((sc a kt t n) (bg (sc a kt t n) i)).2.1 : Nat):Int) (((sc a kt t n) (bg (sc a kt t n) i)).2.2) ((((sc a kt t n) (bg (sc a kt t n) i)).1 : Nat):Int))) X hw 5 rfl i (by omega) (by omega) (by decide) d_Mo_scanAll_62 rfl (fun H locs hw => ?_)
            refine lv_aload_n X.1 X.2.1 d_Mo_scanAll_63 rfl (lv_at hl 1 rfl) ?_
            refine z_get X hw k_Mo 0 rfl 7 (by decide) rfl m_fl_Mo_25 rfl d_Mo_scanAll_64 ?_
            refine lv_aload_n X.1 X.2.1 d_Mo_scanAll_67 rfl (lv_at hl 1 rfl) ?_
            refine z_get X hw k_Mo 0 rfl 4 (by decide) rfl m_fl_Mo_44 rfl d_Mo_scanAll_68 ?_
            refine lv_aload_n X.1 X.2.1 d_Mo_scanAll_71 rfl (lv_at hl 1 rfl) ?_
            refine z_get X hw k_Mo 0 rfl 19 (by decide) rfl m_fl_Mo_62 rfl d_Mo_scanAll_72 ?_
            refine z_iast (ws' := (w_Mo k cA mA mK mT (n:Int) (i:Int) (uz b1 i ((bg (sc a kt t n) i : Nat):Int)) (uz z1 i ((((sc a kt t n) (bg (sc a kt t n) i)).2.1 : Nat):Int)) (uz o1 i (((sc a kt t n) (bg (sc a kt t n) i)).2.2)) l1 (-1) 0 oT mQ oF oS rm sm em ((((sc a kt t n) (bg (sc a kt t n) i)).2.1 : Nat):Int) (((sc a kt t n) (bg (sc a kt t n) i)).2.2) ((((sc a kt t n) (bg (sc a kt t n) i)).1 : Nat):Int))) X hw 6 rfl i (by omega) (by omega) (by decide) d_Mo_scanAll_75 rfl (fun H locs hw => ?_)
            refine lv_aload_n X.1 X.2.1 d_Mo_scanAll_76 rfl (lv_at hl 1 rfl) ?_
            refine z_get X hw k_Mo 0 rfl 8 (by decide) rfl m_fl_Mo_28 rfl d_Mo_scanAll_77 ?_
            refine lv_aload_n X.1 X.2.1 d_Mo_scanAll_80 rfl (lv_at hl 1 rfl) ?_
            refine z_get X hw k_Mo 0 rfl 4 (by decide) rfl m_fl_Mo_44 rfl d_Mo_scanAll_81 ?_
            refine lv_aload_n X.1 X.2.1 d_Mo_scanAll_84 rfl (lv_at hl 1 rfl) ?_
            refine z_get X hw k_Mo 0 rfl 20 (by decide) rfl m_fl_Mo_65 rfl d_Mo_scanAll_85 ?_
            refine z_iast (ws' := (w_Mo k cA mA mK mT (n:Int) (i:Int) (uz b1 i ((bg (sc a kt t n) i : Nat):Int)) (uz z1 i ((((sc a kt t n) (bg (sc a kt t n) i)).2.1 : Nat):Int)) (uz o1 i (((sc a kt t n) (bg (sc a kt t n) i)).2.2)) (uz l1 i ((((sc a kt t n) (bg (sc a kt t n) i)).1 : Nat):Int)) (-1) 0 oT mQ oF oS rm sm em ((((sc a kt t n) (bg (sc a kt t n) i)).2.1 : Nat):Int) (((sc a kt t n) (bg (sc a kt t n) i)).2.2) ((((sc a kt t n) (bg (sc a kt t n) i)).1 : Nat):Int))) X hw 7 rfl i (by omega) (by omega) (by decide) d_Mo_scanAll_88 rfl (fun H locs hw => ?_)
            refine lv_aload_n X.1 X.2.1 d_Mo_scanAll_89 rfl (lv_at hl 1 rfl) ?_
            refine lv_dup X.1 X.2.1 d_Mo_scanAll_90 rfl ?_
            refine z_get X hw k_Mo 0 rfl 4 (by decide) rfl m_fl_Mo_44 rfl d_Mo_scanAll_91 ?_
            refine z_iconst X d_Mo_scanAll_94 ?_
            refine z_iadd (r := ((i + 1 : Nat):Int)) X d_Mo_scanAll_95 (by omega) ?_
            refine z_put (ws' := (w_Mo k cA mA mK mT (n:Int) ((i + 1 : Nat):Int) (uz b1 i ((bg (sc a kt t n) i : Nat):Int)) (uz z1 i ((((sc a kt t n) (bg (sc a kt t n) i)).2.1 : Nat):Int)) (uz o1 i (((sc a kt t n) (bg (sc a kt t n) i)).2.2)) (uz l1 i ((((sc a kt t n) (bg (sc a kt t n) i)).1 : Nat):Int)) (-1) 0 oT mQ oF oS rm sm em ((((sc a kt t n) (bg (sc a kt t n) i)).2.1 : Nat):Int) (((sc a kt t n) (bg (sc a kt t n) i)).2.2) ((((sc a kt t n) (bg (sc a kt t n) i)).1 : Nat):Int))) X hw k_Mo 0 rfl 4 (by decide) rfl rfl (Nat.le_of_ble_eq_true rfl) m_fl_Mo_44 rfl d_Mo_scanAll_96 rfl (fun H locs hw => ?_)
            refine lv_iload_n X.1 X.2.1 d_Mo_scanAll_99 rfl (lv_at hl 0 rfl) ?_
            refine lv_aload_n X.1 X.2.1 d_Mo_scanAll_100 rfl (lv_at hl 1 rfl) ?_
            refine z_get X hw k_Mo 0 rfl 18 (by decide) rfl m_fl_Mo_59 rfl d_Mo_scanAll_101 ?_
            refine z_iadd (r := ((bg (sc a kt t n) (i + 1) : Nat):Int)) X d_Mo_scanAll_104 (by omega) ?_
            refine z_istore_n (lv' := [(1, .int (iI ((bg (sc a kt t n) (i + 1) : Nat):Int))), (0, .ref (k 0))]) X d_Mo_scanAll_105 rfl hl (by decide) rfl (fun ls hl => ?_)
            refine z_goto (tgt := 17) X d_Mo_scanAll_106 (by decide) ?_
            exact ih (i + 1) (uz b1 i ((bg (sc a kt t n) i : Nat):Int)) (uz z1 i ((((sc a kt t n) (bg (sc a kt t n) i)).2.1 : Nat):Int)) (uz o1 i (((sc a kt t n) (bg (sc a kt t n) i)).2.2)) (uz l1 i ((((sc a kt t n) (bg (sc a kt t n) i)).1 : Nat):Int)) (-1) 0 ((((sc a kt t n) (bg (sc a kt t n) i)).2.1 : Nat):Int) (((sc a kt t n) (bg (sc a kt t n) i)).2.2) ((((sc a kt t n) (bg (sc a kt t n) i)).1 : Nat):Int) (by omega) (fun u hu => by
              obtain ⟨q1, q2, q3, q4⟩ := It_uz (y := fun u => ((bg (sc a kt t n) u : Nat):Int)) hL u hu
              exact ⟨q1, q2, q3, q4⟩) (fun u hu => by
              by_cases q : u = i
              · rw [q]; omega
              · exact hlt u (by omega)) (Or.inl ⟨rfl, rfl, by omega, fun u hu => by
              by_cases q : u = i
              · rw [q]; exact hsp
              · exact hpos u (by omega)⟩) H locs ls hw (lv_sub hl [0, 1] rfl)
  refine lv_aload_n X.1 X.2.1 d_Mo_scanAll_0 rfl (lv_at hl 0 rfl) ?_
  refine z_iconst X d_Mo_scanAll_1 ?_
  refine z_put (ws' := (w_Mo k cA mA mK mT (n:Int) 0 mB mZ mO mL fa fl oT mQ oF oS rm sm em tS tK tL)) X hw k_Mo 0 rfl 4 (by decide) rfl rfl (Nat.le_of_ble_eq_true rfl) m_fl_Mo_44 rfl d_Mo_scanAll_2 rfl (fun H locs hw => ?_)
  refine lv_aload_n X.1 X.2.1 d_Mo_scanAll_5 rfl (lv_at hl 0 rfl) ?_
  refine z_iconst X d_Mo_scanAll_6 ?_
  refine z_put (ws' := (w_Mo k cA mA mK mT (n:Int) 0 mB mZ mO mL (-1) fl oT mQ oF oS rm sm em tS tK tL)) X hw k_Mo 0 rfl 9 (by decide) rfl rfl (Nat.le_of_ble_eq_true rfl) m_fl_Mo_31 rfl d_Mo_scanAll_7 rfl (fun H locs hw => ?_)
  refine lv_aload_n X.1 X.2.1 d_Mo_scanAll_10 rfl (lv_at hl 0 rfl) ?_
  refine z_iconst X d_Mo_scanAll_11 ?_
  refine z_put (ws' := (w_Mo k cA mA mK mT (n:Int) 0 mB mZ mO mL (-1) 0 oT mQ oF oS rm sm em tS tK tL)) X hw k_Mo 0 rfl 10 (by decide) rfl rfl (Nat.le_of_ble_eq_true rfl) m_fl_Mo_47 rfl d_Mo_scanAll_12 rfl (fun H locs hw => ?_)
  refine z_iconst X d_Mo_scanAll_15 ?_
  refine z_istore_n (lv' := [(1, .int (iI 0)), (0, .ref (k 0))]) X d_Mo_scanAll_16 rfl hl (by decide) rfl (fun ls hl => ?_)
  exact lp 402 0 mB mZ mO mL (-1) 0 tS tK tL (Nat.zero_le _) (fun u hu => absurd hu (Nat.not_lt_zero u)) (fun u hu => absurd hu (Nat.not_lt_zero u)) (Or.inl ⟨rfl, rfl, by omega, fun u hu => absurd hu (Nat.not_lt_zero u)⟩) _ _ ls hw (lv_sub hl [0, 1] rfl)
end
section
set_option maxHeartbeats 4000000 in
set_option maxRecDepth 100000 in
/-- whether one began there -/
theorem c_Mo_began (l : Launch) (D : va_G) (cA : Nat → ClassId) (k : Nat → Nat) (hs : Nat) (mA mK mT mB mZ mO mL mQ : Nat → Int) (mn tk fa fl oF oS rm sm em tS tK tL : Int) (T0 : Nat) (x0 : Int) (hT0 : T0 ≤ 400) (hx0 : 0 ≤ x0 ∧ x0 < 1000) (hoF : -1 ≤ oF ∧ oF < 1000) (hoS : 0 ≤ oS ∧ oS < 1000) (hQ : ∀ j, j < T0 → 0 ≤ mQ j ∧ mQ j < 1000) : Met l y_Mo_began (cW y_Mo_began b_Mo_began 4 (some .boolean)) (rM 0 0) (zP [.ref (k 0), .int (iI x0)] D cA (w_Mo k cA mA mK mT mn tk mB mZ mO mL fa fl (T0:Int) mQ oF oS rm sm em tS tK tL) hs) (Qro (fun z => z = 1 ∧ (x0 = oF ∨ x0 = oS ∨ ∃ j, j < T0 ∧ mQ j = x0) ∨ z = 0 ∧ ¬ (x0 = oF ∨ x0 = oS ∨ ∃ j, j < T0 ∧ mQ j = x0))) 0 0 (fun _ => False) := by
  refine z_ofW (lv := [(0, .ref (k 0)), (1, .int (iI x0))]) (by decide) (Nat.le_of_ble_eq_true rfl) rfl ?_
  intro p e s m below meth c ls hr hlk hnm X hhs hw hl
  have X : Cx p s m ([.ref (k 0), .int (iI x0)] : List Value).toArray c b_Mo_began 4 R_Mo D cA := X
  have lp : ∀ (f : Nat) (i : Nat) (b : Int), i ≤ T0 → T0 < f + i → (b = 1 ∧ (x0 = oF ∨ x0 = oS ∨ ∃ j, j < i ∧ mQ j = x0) ∨ b = 0 ∧ ¬ (x0 = oF ∨ x0 = oS ∨ ∃ j, j < i ∧ mQ j = x0)) → ∀ (ls : Array Slot), lv_has ls 4 [(3, .int (iI (i:Int))), (2, .int (iI b)), (0, .ref (k 0)), (1, .int (iI x0))] → W p l e (rM 0 0) s m ([.ref (k 0), .int (iI x0)] : List Value).toArray below meth c s.heap [] 0 0 (MQ below (Qro (fun z => z = 1 ∧ (x0 = oF ∨ x0 = oS ∨ ∃ j, j < T0 ∧ mQ j = x0) ∨ z = 0 ∧ ¬ (x0 = oF ∨ x0 = oS ∨ ∃ j, j < T0 ∧ mQ j = x0))) ([.ref (k 0), .int (iI x0)] : List Value).toArray s 0 0 (fun _ => False)) (F0 m 24 ls []) := by
    intro f
    induction f with
    | zero =>
      intro i b hi hf hb ls hl
      exfalso; omega
    | succ f ih =>
      intro i b hi hf hb ls hl
      refine lv_iload_n X.1 X.2.1 d_Mo_began_24 rfl (lv_at hl 0 rfl) ?_
      refine lv_aload_n X.1 X.2.1 d_Mo_began_25 rfl (lv_at hl 2 rfl) ?_
      refine z_get X hw k_Mo 0 rfl 11 (by decide) rfl m_fl_Mo_78 rfl d_Mo_began_26 ?_
      refine z_icmp_ge (tgt := 58) X d_Mo_began_29 (by decide) (by omega) (by omega) (fun c_29 => ?_) (fun c_29 => ?_)
      · refine lv_iload_n X.1 X.2.1 d_Mo_began_58 rfl (lv_at hl 1 rfl) ?_
        obtain rfl : i = T0 := by omega
        rcases hb with ⟨rfl, q⟩ | ⟨rfl, q⟩
        · exact z_iretR X hr hlk (by decide) (Or.inl ⟨rfl, q⟩) d_Mo_began_59
        · exact z_iretR X hr hlk (by decide) (Or.inr ⟨rfl, q⟩) d_Mo_began_59
      · refine lv_iload_n X.1 X.2.1 d_Mo_began_32 rfl (lv_at hl 1 rfl) ?_
        refine z_if_ne (tgt := 46) X d_Mo_began_33 (by decide) (by rcases hb with ⟨q, _⟩ | ⟨q, _⟩ <;> omega) (fun c_33 => ?_) (fun c_33 => ?_)
        · refine z_iconst X d_Mo_began_46 ?_
          refine z_goto (tgt := 51) X d_Mo_began_47 (by decide) ?_
          refine z_istore_n (lv' := [(2, .int (iI 1)), (3, .int (iI (i:Int))), (0, .ref (k 0)), (1, .int (iI x0))]) X d_Mo_began_51 rfl hl (by decide) rfl (fun ls hl => ?_)
          refine z_iinc (lv' := [(3, .int (iI ((i + 1 : Nat):Int))), (2, .int (iI 1)), (0, .ref (k 0)), (1, .int (iI x0))]) (r := ((i + 1 : Nat):Int)) (k := 1) X d_Mo_began_52 hl rfl (by omega) (by decide) rfl (fun ls hl => ?_)
          refine z_goto (tgt := 24) X d_Mo_began_55 (by decide) ?_
          exact ih (i + 1) 1 (by omega) (by omega) (Or.inl ⟨rfl, by
            rcases hb with ⟨_, q | q | ⟨j, q1, q2⟩⟩ | ⟨q, _⟩
            · exact Or.inl q
            · exact Or.inr (Or.inl q)
            · exact Or.inr (Or.inr ⟨j, by omega, q2⟩)
            · exact absurd q c_33⟩) ls (lv_sub hl [0, 1, 2, 3] rfl)
        · have hqi := hQ i (by omega)
          refine lv_aload_n X.1 X.2.1 d_Mo_began_36 rfl (lv_at hl 2 rfl) ?_
          refine z_get X hw k_Mo 0 rfl 12 (by decide) rfl m_fl_Mo_35 rfl d_Mo_began_37 ?_
          refine lv_iload_n X.1 X.2.1 d_Mo_began_40 rfl (lv_at hl 0 rfl) ?_
          refine z_iald X hw 8 rfl i (by omega) (by omega) (by decide) d_Mo_began_41 ?_
          refine lv_iload_n X.1 X.2.1 d_Mo_began_42 rfl (lv_at hl 3 rfl) ?_
          refine z_icmp_ne (tgt := 50) X d_Mo_began_43 (by decide) (by omega) (by omega) (fun c_43 => ?_) (fun c_43 => ?_)
          · refine z_iconst X d_Mo_began_50 ?_
            refine z_istore_n (lv' := [(2, .int (iI 0)), (3, .int (iI (i:Int))), (0, .ref (k 0)), (1, .int (iI x0))]) X d_Mo_began_51 rfl hl (by decide) rfl (fun ls hl => ?_)
            refine z_iinc (lv' := [(3, .int (iI ((i + 1 : Nat):Int))), (2, .int (iI 0)), (0, .ref (k 0)), (1, .int (iI x0))]) (r := ((i + 1 : Nat):Int)) (k := 1) X d_Mo_began_52 hl rfl (by omega) (by decide) rfl (fun ls hl => ?_)
            refine z_goto (tgt := 24) X d_Mo_began_55 (by decide) ?_
            exact ih (i + 1) 0 (by omega) (by omega) (Or.inr ⟨rfl, fun w => by
              rcases hb with ⟨q, _⟩ | ⟨_, q⟩
              · omega
              · rcases w with w | w | ⟨j, w1, w2⟩
                · exact q (Or.inl w)
                · exact q (Or.inr (Or.inl w))
                · by_cases e0 : j = i
                  · rw [e0] at w2; exact c_43 w2
                  · exact q (Or.inr (Or.inr ⟨j, by omega, w2⟩))⟩) ls (lv_sub hl [0, 1, 2, 3] rfl)
          · refine z_iconst X d_Mo_began_46 ?_
            refine z_goto (tgt := 51) X d_Mo_began_47 (by decide) ?_
            refine z_istore_n (lv' := [(2, .int (iI 1)), (3, .int (iI (i:Int))), (0, .ref (k 0)), (1, .int (iI x0))]) X d_Mo_began_51 rfl hl (by decide) rfl (fun ls hl => ?_)
            refine z_iinc (lv' := [(3, .int (iI ((i + 1 : Nat):Int))), (2, .int (iI 1)), (0, .ref (k 0)), (1, .int (iI x0))]) (r := ((i + 1 : Nat):Int)) (k := 1) X d_Mo_began_52 hl rfl (by omega) (by decide) rfl (fun ls hl => ?_)
            refine z_goto (tgt := 24) X d_Mo_began_55 (by decide) ?_
            exact ih (i + 1) 1 (by omega) (by omega) (Or.inl ⟨rfl, Or.inr (Or.inr ⟨i, by omega, c_43⟩)⟩) ls (lv_sub hl [0, 1, 2, 3] rfl)
  refine lv_iload_n X.1 X.2.1 d_Mo_began_0 rfl (lv_at hl 1 rfl) ?_
  refine lv_aload_n X.1 X.2.1 d_Mo_began_1 rfl (lv_at hl 0 rfl) ?_
  refine z_get X hw k_Mo 0 rfl 13 (by decide) rfl m_fl_Mo_72 rfl d_Mo_began_2 ?_
  refine z_icmp_eq (tgt := 16) X d_Mo_began_5 (by decide) (by omega) (by omega) (fun c_5 => ?_) (fun c_5 => ?_)
  · refine z_iconst X d_Mo_began_16 ?_
    refine z_goto (tgt := 21) X d_Mo_began_17 (by decide) ?_
    refine z_istore_n (lv' := [(2, .int (iI 1)), (0, .ref (k 0)), (1, .int (iI x0))]) X d_Mo_began_21 rfl hl (by decide) rfl (fun ls hl => ?_)
    refine z_iconst X d_Mo_began_22 ?_
    refine z_istore_n (lv' := [(3, .int (iI 0)), (2, .int (iI 1)), (0, .ref (k 0)), (1, .int (iI x0))]) X d_Mo_began_23 rfl hl (by decide) rfl (fun ls hl => ?_)
    exact lp (T0 + 1) 0 1 (by omega) (by omega) (Or.inl ⟨rfl, Or.inl c_5⟩) ls (lv_sub hl [0, 1, 2, 3] rfl)
  · refine lv_iload_n X.1 X.2.1 d_Mo_began_8 rfl (lv_at hl 1 rfl) ?_
    refine lv_aload_n X.1 X.2.1 d_Mo_began_9 rfl (lv_at hl 0 rfl) ?_
    refine z_get X hw k_Mo 0 rfl 14 (by decide) rfl m_fl_Mo_75 rfl d_Mo_began_10 ?_
    refine z_icmp_ne (tgt := 20) X d_Mo_began_13 (by decide) (by omega) (by omega) (fun c_13 => ?_) (fun c_13 => ?_)
    · refine z_iconst X d_Mo_began_20 ?_
      refine z_istore_n (lv' := [(2, .int (iI 0)), (0, .ref (k 0)), (1, .int (iI x0))]) X d_Mo_began_21 rfl hl (by decide) rfl (fun ls hl => ?_)
      refine z_iconst X d_Mo_began_22 ?_
      refine z_istore_n (lv' := [(3, .int (iI 0)), (2, .int (iI 0)), (0, .ref (k 0)), (1, .int (iI x0))]) X d_Mo_began_23 rfl hl (by decide) rfl (fun ls hl => ?_)
      exact lp (T0 + 1) 0 0 (by omega) (by omega) (Or.inr ⟨rfl, fun w => by
        rcases w with w | w | ⟨j, w1, _⟩
        · exact c_5 w
        · exact c_13 w
        · exact absurd w1 (Nat.not_lt_zero j)⟩) ls (lv_sub hl [0, 1, 2, 3] rfl)
    · refine z_iconst X d_Mo_began_16 ?_
      refine z_goto (tgt := 21) X d_Mo_began_17 (by decide) ?_
      refine z_istore_n (lv' := [(2, .int (iI 1)), (0, .ref (k 0)), (1, .int (iI x0))]) X d_Mo_began_21 rfl hl (by decide) rfl (fun ls hl => ?_)
      refine z_iconst X d_Mo_began_22 ?_
      refine z_istore_n (lv' := [(3, .int (iI 0)), (2, .int (iI 1)), (0, .ref (k 0)), (1, .int (iI x0))]) X d_Mo_began_23 rfl hl (by decide) rfl (fun ls hl => ?_)
      exact lp (T0 + 1) 0 1 (by omega) (by omega) (Or.inl ⟨rfl, Or.inr (Or.inl c_13)⟩) ls (lv_sub hl [0, 1, 2, 3] rfl)
set_option maxHeartbeats 4000000 in
set_option maxRecDepth 100000 in
/-- the text behind an edit -/
theorem c_Mo_change (l : Launch) (D : va_G) (cA : Nat → ClassId) (k : Nat → Nat) (hs : Nat) (mA mK mT mB mZ mO mL mQ : Nat → Int) (tk fa fl oT oF oS rm sm em tS tK tL : Int)  (n n2 pl po pm : Nat) (v0 : Int64) (hpm : pm ≤ 16) (hpo : pl + po ≤ n) (hn2 : n2 + po = n + pm) (hn24 : n2 ≤ 400) (hn4 : n ≤ 400) : Met l y_Mo_change (cW y_Mo_change b_Mo_change 8 none) (rM 0 0) (zP [.ref (k 0), .int (iI (pl:Int)), .int (iI (po:Int)), .long v0, .int (iI (pm:Int))] D cA (w_Mo k cA mA mK mT (n:Int) tk mB mZ mO mL fa fl oT mQ oF oS rm sm em tS tK tL) hs) (zQv (fun u : Nat → Int => ∀ i, i < n2 → u i = et mT pl po pm (wv v0 pm) i) (fun u => (w_Mo k cA mA mK u (n2:Int) tk mB mZ mO mL fa fl oT mQ oF oS rm sm em tS tK tL)) D (w_Mo k cA mA mK mT (n:Int) tk mB mZ mO mL fa fl oT mQ oF oS rm sm em tS tK tL) hs) 0 0 (va_A (w_Mo k cA mA mK mT (n:Int) tk mB mZ mO mL fa fl oT mQ oF oS rm sm em tS tK tL) hs) := by
  refine z_ofW (lv := [(0, .ref (k 0)), (1, .int (iI (pl:Int))), (2, .int (iI (po:Int))), (3, .long v0), (5, .int (iI (pm:Int)))]) (by decide) (Nat.le_of_ble_eq_true rfl) rfl ?_
  intro p e s m below meth c ls hr hlk hnm X hhs hw hl
  have X : Cx p s m ([.ref (k 0), .int (iI (pl:Int)), .int (iI (po:Int)), .long v0, .int (iI (pm:Int))] : List Value).toArray c b_Mo_change 8 R_Mo D cA := X
  have lp3 : ∀ (f : Nat) (w : Nat) (r : Nat → Int), w ≤ pm → pm < f + w → (∀ j, j < pl → r j = mT j) → (∀ j, pl + pm ≤ j → j < n2 → r j = mT (j + po - pm)) → (∀ q, q < w → r (pl + q) = wv v0 pm q) → ∀ (H : Heap) (locs : List Loc) (ls : Array Slot), Wd D (va_A (w_Mo k cA mA mK mT (n:Int) tk mB mZ mO mL fa fl oT mQ oF oS rm sm em tS tK tL) hs) s.heap (w_Mo k cA mA mK r (n:Int) tk mB mZ mO mL fa fl oT mQ oF oS rm sm em tS tK tL) H locs → lv_has ls 8 [(7, .int (iI (w:Int))), (6, .int (iI (n2:Int))), (0, .ref (k 0)), (1, .int (iI (pl:Int))), (2, .int (iI (po:Int))), (3, .long v0), (5, .int (iI (pm:Int)))] → W p l e (rM 0 0) s m ([.ref (k 0), .int (iI (pl:Int)), .int (iI (po:Int)), .long v0, .int (iI (pm:Int))] : List Value).toArray below meth c H locs 0 0 (MQ below (zQv (fun u : Nat → Int => ∀ i, i < n2 → u i = et mT pl po pm (wv v0 pm) i) (fun u => (w_Mo k cA mA mK u (n2:Int) tk mB mZ mO mL fa fl oT mQ oF oS rm sm em tS tK tL)) D (w_Mo k cA mA mK mT (n:Int) tk mB mZ mO mL fa fl oT mQ oF oS rm sm em tS tK tL) hs) ([.ref (k 0), .int (iI (pl:Int)), .int (iI (po:Int)), .long v0, .int (iI (pm:Int))] : List Value).toArray s 0 0 (va_A (w_Mo k cA mA mK mT (n:Int) tk mB mZ mO mL fa fl oT mQ oF oS rm sm em tS tK tL) hs)) (F0 m 101 ls []) := by
    intro f
    induction f with
    | zero =>
      intro w r hwm hf h1 h2 h3 H locs ls hw hl
      exfalso; omega
    | succ f ih =>
      intro w r hwm hf h1 h2 h3 H locs ls hw hl
      refine lv_iload X.1 X.2.1 d_Mo_change_101 (lv_at hl 0 rfl) ?_
      refine lv_iload X.1 X.2.1 d_Mo_change_103 (lv_at hl 6 rfl) ?_
      refine z_icmp_ge (tgt := 139) X d_Mo_change_105 (by decide) (by omega) (by omega) (fun c_105 => ?_) (fun c_105 => ?_)
      · refine lv_aload_n X.1 X.2.1 d_Mo_change_139 rfl (lv_at hl 2 rfl) ?_
        refine lv_iload X.1 X.2.1 d_Mo_change_140 (lv_at hl 1 rfl) ?_
        refine z_put (ws' := (w_Mo k cA mA mK r (n2:Int) tk mB mZ mO mL fa fl oT mQ oF oS rm sm em tS tK tL)) X hw k_Mo 0 rfl 3 (by decide) rfl rfl (Nat.le_of_ble_eq_true rfl) m_fl_Mo_41 rfl d_Mo_change_142 rfl (fun H locs hw => ?_)
        obtain rfl : w = pm := by omega
        exact z_vret X hr hlk r (fun i hi => by
          unfold et
          by_cases q : i < pl
          · rw [if_pos q]; exact h1 i q
          · rw [if_neg q]
            by_cases q2 : i < pl + w
            · rw [if_pos q2, ← h3 (i - pl) (by omega)]
              exact congrArg r (by omega)
            · rw [if_neg q2, h2 i (by omega) hi]
              exact congrArg mT (by omega)) hw d_Mo_change_145
      · refine lv_aload_n X.1 X.2.1 d_Mo_change_108 rfl (lv_at hl 2 rfl) ?_
        refine z_get X hw k_Mo 0 rfl 2 (by decide) rfl m_fl_Mo_16 rfl d_Mo_change_109 ?_
        refine lv_iload_n X.1 X.2.1 d_Mo_change_112 rfl (lv_at hl 3 rfl) ?_
        refine lv_iload X.1 X.2.1 d_Mo_change_113 (lv_at hl 0 rfl) ?_
        refine z_iadd (r := ((pl:Int) + (w:Int))) X d_Mo_change_115 rfl ?_
        refine lv_lload_n X.1 X.2.1 d_Mo_change_116 rfl (lv_at hl 5 rfl) ?_
        refine z_iconst X d_Mo_change_117 ?_
        refine lv_iload X.1 X.2.1 d_Mo_change_118 (lv_at hl 6 rfl) ?_
        refine z_iconst X d_Mo_change_120 ?_
        refine z_isub (r := ((pm:Int) - 1)) X d_Mo_change_121 rfl ?_
        refine lv_iload X.1 X.2.1 d_Mo_change_122 (lv_at hl 0 rfl) ?_
        refine z_isub (r := (((pm:Int) - 1) - (w:Int))) X d_Mo_change_124 rfl ?_
        refine z_imul (r := (4 * ((pm - 1 - w : Nat):Int))) X d_Mo_change_125 (by omega) ?_
        refine lv_lshr X.1 X.2.1 d_Mo_change_126 rfl ?_
        refine lv_ldc2 X.1 X.2.1 X.2.2.2.1 (X.2.2.2.2.1 _ m_lc_Mo_81) d_Mo_change_127 ?_
        refine lv_land X.1 X.2.1 d_Mo_change_130 ?_
        refine z_nibi X d_Mo_change_131 ?_
        refine z_iast (ws' := (w_Mo k cA mA mK (uz r (pl + w) (nb v0 (4 * ((pm - 1 - w : Nat):Int)))) (n:Int) tk mB mZ mO mL fa fl oT mQ oF oS rm sm em tS tK tL)) X hw 3 rfl (pl + w) (by omega) (by omega) (by decide) d_Mo_change_132 rfl (fun H locs hw => ?_)
        refine z_iinc (lv' := [(7, .int (iI ((w + 1 : Nat):Int))), (6, .int (iI (n2:Int))), (0, .ref (k 0)), (1, .int (iI (pl:Int))), (2, .int (iI (po:Int))), (3, .long v0), (5, .int (iI (pm:Int)))]) (r := ((w + 1 : Nat):Int)) (k := 0) X d_Mo_change_133 hl rfl (by omega) (by decide) rfl (fun ls hl => ?_)
        refine z_goto (tgt := 101) X d_Mo_change_136 (by decide) ?_
        exact ih (w + 1) (uz r (pl + w) (nb v0 (4 * ((pm - 1 - w : Nat):Int)))) (by omega) (by omega) (fun j hj => by rw [uz_n (by omega)]; exact h1 j hj) (fun j hj hj2 => by rw [uz_n (by omega)]; exact h2 j hj hj2) (fun q hq => by
          by_cases e0 : q = w
          · rw [e0, uz_s]; rfl
          · rw [uz_n (by omega)]; exact h3 q (by omega)) H locs ls hw (lv_sub hl [0, 1, 2, 3, 4, 5, 6] rfl)
  have K98 : ∀ (r : Nat → Int), (∀ j, j < pl → r j = mT j) → (∀ j, pl + pm ≤ j → j < n2 → r j = mT (j + po - pm)) → ∀ (H : Heap) (locs : List Loc) (ls : Array Slot), Wd D (va_A (w_Mo k cA mA mK mT (n:Int) tk mB mZ mO mL fa fl oT mQ oF oS rm sm em tS tK tL) hs) s.heap (w_Mo k cA mA mK r (n:Int) tk mB mZ mO mL fa fl oT mQ oF oS rm sm em tS tK tL) H locs → lv_has ls 8 [(6, .int (iI (n2:Int))), (0, .ref (k 0)), (1, .int (iI (pl:Int))), (2, .int (iI (po:Int))), (3, .long v0), (5, .int (iI (pm:Int)))] → W p l e (rM 0 0) s m ([.ref (k 0), .int (iI (pl:Int)), .int (iI (po:Int)), .long v0, .int (iI (pm:Int))] : List Value).toArray below meth c H locs 0 0 (MQ below (zQv (fun u : Nat → Int => ∀ i, i < n2 → u i = et mT pl po pm (wv v0 pm) i) (fun u => (w_Mo k cA mA mK u (n2:Int) tk mB mZ mO mL fa fl oT mQ oF oS rm sm em tS tK tL)) D (w_Mo k cA mA mK mT (n:Int) tk mB mZ mO mL fa fl oT mQ oF oS rm sm em tS tK tL) hs) ([.ref (k 0), .int (iI (pl:Int)), .int (iI (po:Int)), .long v0, .int (iI (pm:Int))] : List Value).toArray s 0 0 (va_A (w_Mo k cA mA mK mT (n:Int) tk mB mZ mO mL fa fl oT mQ oF oS rm sm em tS tK tL) hs)) (F0 m 98 ls []) := by
    intro r h1 h2 H locs ls hw hl
    refine z_iconst X d_Mo_change_98 ?_
    refine z_istore (lv' := [(7, .int (iI 0)), (6, .int (iI (n2:Int))), (0, .ref (k 0)), (1, .int (iI (pl:Int))), (2, .int (iI (po:Int))), (3, .long v0), (5, .int (iI (pm:Int)))]) X d_Mo_change_99 hl (by decide) rfl (fun ls hl => ?_)
    exact lp3 (pm + 1) 0 r (by omega) (by omega) h1 h2 (fun q hq => absurd hq (Nat.not_lt_zero q)) H locs ls hw (lv_sub hl [0, 1, 2, 3, 4, 5, 6] rfl)
  have lp1 : ∀ (f : Nat) (x : Nat) (r : Nat → Int), po < pm → pl + pm ≤ x ∧ x ≤ n2 → x < f → (∀ j, x ≤ j → j < n2 → r j = mT (j + po - pm)) → (∀ j, j < x → r j = mT j) → ∀ (H : Heap) (locs : List Loc) (ls : Array Slot), Wd D (va_A (w_Mo k cA mA mK mT (n:Int) tk mB mZ mO mL fa fl oT mQ oF oS rm sm em tS tK tL) hs) s.heap (w_Mo k cA mA mK r (n:Int) tk mB mZ mO mL fa fl oT mQ oF oS rm sm em tS tK tL) H locs → lv_has ls 8 [(7, .int (iI ((x:Int) - 1))), (6, .int (iI (n2:Int))), (0, .ref (k 0)), (1, .int (iI (pl:Int))), (2, .int (iI (po:Int))), (3, .long v0), (5, .int (iI (pm:Int)))] → W p l e (rM 0 0) s m ([.ref (k 0), .int (iI (pl:Int)), .int (iI (po:Int)), .long v0, .int (iI (pm:Int))] : List Value).toArray below meth c H locs 0 0 (MQ below (zQv (fun u : Nat → Int => ∀ i, i < n2 → u i = et mT pl po pm (wv v0 pm) i) (fun u => (w_Mo k cA mA mK u (n2:Int) tk mB mZ mO mL fa fl oT mQ oF oS rm sm em tS tK tL)) D (w_Mo k cA mA mK mT (n:Int) tk mB mZ mO mL fa fl oT mQ oF oS rm sm em tS tK tL) hs) ([.ref (k 0), .int (iI (pl:Int)), .int (iI (po:Int)), .long v0, .int (iI (pm:Int))] : List Value).toArray s 0 0 (va_A (w_Mo k cA mA mK mT (n:Int) tk mB mZ mO mL fa fl oT mQ oF oS rm sm em tS tK tL) hs)) (F0 m 23 ls []) := by
    intro f
    induction f with
    | zero =>
      intro x r hmo hx hf h1 h2 H locs ls hw hl
      exfalso; omega
    | succ f ih =>
      intro x r hmo hx hf h1 h2 H locs ls hw hl
      refine lv_iload X.1 X.2.1 d_Mo_change_23 (lv_at hl 0 rfl) ?_
      refine lv_iload_n X.1 X.2.1 d_Mo_change_25 rfl (lv_at hl 3 rfl) ?_
      refine lv_iload X.1 X.2.1 d_Mo_change_26 (lv_at hl 6 rfl) ?_
      refine z_iadd (r := ((pl + pm : Nat):Int)) X d_Mo_change_28 (by omega) ?_
      refine z_icmp_lt (tgt := 57) X d_Mo_change_29 (by decide) (by omega) (by omega) (fun c_29 => ?_) (fun c_29 => ?_)
      · refine z_goto (tgt := 98) X d_Mo_change_57 (by decide) ?_
        exact K98 r (fun j hj => h2 j (by omega)) (fun j hj hj2 => h1 j (by omega) hj2) H locs ls hw (lv_sub hl [1, 2, 3, 4, 5, 6] rfl)
      · refine lv_aload_n X.1 X.2.1 d_Mo_change_32 rfl (lv_at hl 2 rfl) ?_
        refine z_get X hw k_Mo 0 rfl 2 (by decide) rfl m_fl_Mo_16 rfl d_Mo_change_33 ?_
        refine lv_iload X.1 X.2.1 d_Mo_change_36 (lv_at hl 0 rfl) ?_
        refine lv_aload_n X.1 X.2.1 d_Mo_change_38 rfl (lv_at hl 2 rfl) ?_
        refine z_get X hw k_Mo 0 rfl 2 (by decide) rfl m_fl_Mo_16 rfl d_Mo_change_39 ?_
        refine lv_iload X.1 X.2.1 d_Mo_change_42 (lv_at hl 0 rfl) ?_
        refine lv_iload X.1 X.2.1 d_Mo_change_44 (lv_at hl 6 rfl) ?_
        refine z_isub (r := (((x:Int) - 1) - (pm:Int))) X d_Mo_change_46 rfl ?_
        refine lv_iload_n X.1 X.2.1 d_Mo_change_47 rfl (lv_at hl 4 rfl) ?_
        refine z_iadd (r := ((((x:Int) - 1) - (pm:Int)) + (po:Int))) X d_Mo_change_48 rfl ?_
        refine z_iald X hw 3 rfl (x - 1 + po - pm) (by omega) (by omega) (by decide) d_Mo_change_49 ?_
        refine z_iast (ws' := (w_Mo k cA mA mK (uz r (x - 1) (r (x - 1 + po - pm))) (n:Int) tk mB mZ mO mL fa fl oT mQ oF oS rm sm em tS tK tL)) X hw 3 rfl (x - 1) (by omega) (by omega) (by decide) d_Mo_change_50 rfl (fun H locs hw => ?_)
        refine z_iinc (lv' := [(7, .int (iI (((x - 1 : Nat):Int) - 1))), (6, .int (iI (n2:Int))), (0, .ref (k 0)), (1, .int (iI (pl:Int))), (2, .int (iI (po:Int))), (3, .long v0), (5, .int (iI (pm:Int)))]) (r := (((x - 1 : Nat):Int) - 1)) (k := 0) X d_Mo_change_51 hl rfl (by omega) (by decide) rfl (fun ls hl => ?_)
        refine z_goto (tgt := 23) X d_Mo_change_54 (by decide) ?_
        exact ih (x - 1) (uz r (x - 1) (r (x - 1 + po - pm))) (by omega) (by omega) (by omega) (fun j hj hj2 => by
          by_cases e0 : j = x - 1
          · rw [e0, uz_s]; exact h2 _ (by omega)
          · rw [uz_n e0]; exact h1 j (by omega) hj2) (fun j hj => by rw [uz_n (by omega)]; exact h2 j (by omega)) H locs ls hw (lv_sub hl [0, 1, 2, 3, 4, 5, 6] rfl)
  have lp2 : ∀ (f : Nat) (x : Nat) (r : Nat → Int), pm ≤ po → pl + pm ≤ x ∧ x ≤ n2 → n2 < f + x → (∀ j, pl + pm ≤ j → j < x → r j = mT (j + po - pm)) → (∀ j, j < pl + pm ∨ x ≤ j → r j = mT j) → ∀ (H : Heap) (locs : List Loc) (ls : Array Slot), Wd D (va_A (w_Mo k cA mA mK mT (n:Int) tk mB mZ mO mL fa fl oT mQ oF oS rm sm em tS tK tL) hs) s.heap (w_Mo k cA mA mK r (n:Int) tk mB mZ mO mL fa fl oT mQ oF oS rm sm em tS tK tL) H locs → lv_has ls 8 [(7, .int (iI (x:Int))), (6, .int (iI (n2:Int))), (0, .ref (k 0)), (1, .int (iI (pl:Int))), (2, .int (iI (po:Int))), (3, .long v0), (5, .int (iI (pm:Int)))] → W p l e (rM 0 0) s m ([.ref (k 0), .int (iI (pl:Int)), .int (iI (po:Int)), .long v0, .int (iI (pm:Int))] : List Value).toArray below meth c H locs 0 0 (MQ below (zQv (fun u : Nat → Int => ∀ i, i < n2 → u i = et mT pl po pm (wv v0 pm) i) (fun u => (w_Mo k cA mA mK u (n2:Int) tk mB mZ mO mL fa fl oT mQ oF oS rm sm em tS tK tL)) D (w_Mo k cA mA mK mT (n:Int) tk mB mZ mO mL fa fl oT mQ oF oS rm sm em tS tK tL) hs) ([.ref (k 0), .int (iI (pl:Int)), .int (iI (po:Int)), .long v0, .int (iI (pm:Int))] : List Value).toArray s 0 0 (va_A (w_Mo k cA mA mK mT (n:Int) tk mB mZ mO mL fa fl oT mQ oF oS rm sm em tS tK tL) hs)) (F0 m 66 ls []) := by
    intro f
    induction f with
    | zero =>
      intro x r hmo hx hf h1 h2 H locs ls hw hl
      exfalso; omega
    | succ f ih =>
      intro x r hmo hx hf h1 h2 H locs ls hw hl
      refine lv_iload X.1 X.2.1 d_Mo_change_66 (lv_at hl 0 rfl) ?_
      refine lv_iload X.1 X.2.1 d_Mo_change_68 (lv_at hl 1 rfl) ?_
      refine z_icmp_ge (tgt := 98) X d_Mo_change_70 (by decide) (by omega) (by omega) (fun c_70 => ?_) (fun c_70 => ?_)
      · exact K98 r (fun j hj => h2 j (by omega)) (fun j hj hj2 => h1 j hj (by omega)) H locs ls hw (lv_sub hl [1, 2, 3, 4, 5, 6] rfl)
      · refine lv_aload_n X.1 X.2.1 d_Mo_change_73 rfl (lv_at hl 2 rfl) ?_
        refine z_get X hw k_Mo 0 rfl 2 (by decide) rfl m_fl_Mo_16 rfl d_Mo_change_74 ?_
        refine lv_iload X.1 X.2.1 d_Mo_change_77 (lv_at hl 0 rfl) ?_
        refine lv_aload_n X.1 X.2.1 d_Mo_change_79 rfl (lv_at hl 2 rfl) ?_
        refine z_get X hw k_Mo 0 rfl 2 (by decide) rfl m_fl_Mo_16 rfl d_Mo_change_80 ?_
        refine lv_iload X.1 X.2.1 d_Mo_change_83 (lv_at hl 0 rfl) ?_
        refine lv_iload X.1 X.2.1 d_Mo_change_85 (lv_at hl 6 rfl) ?_
        refine z_isub (r := ((x:Int) - (pm:Int))) X d_Mo_change_87 rfl ?_
        refine lv_iload_n X.1 X.2.1 d_Mo_change_88 rfl (lv_at hl 4 rfl) ?_
        refine z_iadd (r := (((x:Int) - (pm:Int)) + (po:Int))) X d_Mo_change_89 rfl ?_
        refine z_iald X hw 3 rfl (x + po - pm) (by omega) (by omega) (by decide) d_Mo_change_90 ?_
        refine z_iast (ws' := (w_Mo k cA mA mK (uz r x (r (x + po - pm))) (n:Int) tk mB mZ mO mL fa fl oT mQ oF oS rm sm em tS tK tL)) X hw 3 rfl x (by omega) (by omega) (by decide) d_Mo_change_91 rfl (fun H locs hw => ?_)
        refine z_iinc (lv' := [(7, .int (iI ((x + 1 : Nat):Int))), (6, .int (iI (n2:Int))), (0, .ref (k 0)), (1, .int (iI (pl:Int))), (2, .int (iI (po:Int))), (3, .long v0), (5, .int (iI (pm:Int)))]) (r := ((x + 1 : Nat):Int)) (k := 0) X d_Mo_change_92 hl rfl (by omega) (by decide) rfl (fun ls hl => ?_)
        refine z_goto (tgt := 66) X d_Mo_change_95 (by decide) ?_
        exact ih (x + 1) (uz r x (r (x + po - pm))) (by omega) (by omega) (by omega) (fun j hj hj2 => by
          by_cases e0 : j = x
          · rw [e0, uz_s]; exact h2 _ (by omega)
          · rw [uz_n e0]; exact h1 j hj (by omega)) (fun j hj => by rw [uz_n (by omega)]; exact h2 j (by omega)) H locs ls hw (lv_sub hl [0, 1, 2, 3, 4, 5, 6] rfl)
  refine lv_aload_n X.1 X.2.1 d_Mo_change_0 rfl (lv_at hl 0 rfl) ?_
  refine z_get X hw k_Mo 0 rfl 3 (by decide) rfl m_fl_Mo_41 rfl d_Mo_change_1 ?_
  refine lv_iload_n X.1 X.2.1 d_Mo_change_4 rfl (lv_at hl 2 rfl) ?_
  refine z_isub (r := ((n:Int) - (po:Int))) X d_Mo_change_5 rfl ?_
  refine lv_iload X.1 X.2.1 d_Mo_change_6 (lv_at hl 4 rfl) ?_
  refine z_iadd (r := (n2:Int)) X d_Mo_change_8 (by omega) ?_
  refine z_istore (lv' := [(6, .int (iI (n2:Int))), (0, .ref (k 0)), (1, .int (iI (pl:Int))), (2, .int (iI (po:Int))), (3, .long v0), (5, .int (iI (pm:Int)))]) X d_Mo_change_9 hl (by decide) rfl (fun ls hl => ?_)
  refine lv_iload X.1 X.2.1 d_Mo_change_11 (lv_at hl 5 rfl) ?_
  refine lv_iload_n X.1 X.2.1 d_Mo_change_13 rfl (lv_at hl 3 rfl) ?_
  refine z_icmp_le (tgt := 60) X d_Mo_change_14 (by decide) (by omega) (by omega) (fun c_14 => ?_) (fun c_14 => ?_)
  · refine lv_iload_n X.1 X.2.1 d_Mo_change_60 rfl (lv_at hl 2 rfl) ?_
    refine lv_iload X.1 X.2.1 d_Mo_change_61 (lv_at hl 5 rfl) ?_
    refine z_iadd (r := ((pl + pm : Nat):Int)) X d_Mo_change_63 (by omega) ?_
    refine z_istore (lv' := [(7, .int (iI ((pl + pm : Nat):Int))), (6, .int (iI (n2:Int))), (0, .ref (k 0)), (1, .int (iI (pl:Int))), (2, .int (iI (po:Int))), (3, .long v0), (5, .int (iI (pm:Int)))]) X d_Mo_change_64 hl (by decide) rfl (fun ls hl => ?_)
    exact lp2 (n2 + 1) (pl + pm) mT (by omega) (by omega) (by omega) (fun j hj hj2 => by omega) (fun j hj => rfl) _ _ ls hw (lv_sub hl [0, 1, 2, 3, 4, 5, 6] rfl)
  · refine lv_iload X.1 X.2.1 d_Mo_change_17 (lv_at hl 0 rfl) ?_
    refine z_iconst X d_Mo_change_19 ?_
    refine z_isub (r := ((n2:Int) - 1)) X d_Mo_change_20 rfl ?_
    refine z_istore (lv' := [(7, .int (iI ((n2:Int) - 1))), (6, .int (iI (n2:Int))), (0, .ref (k 0)), (1, .int (iI (pl:Int))), (2, .int (iI (po:Int))), (3, .long v0), (5, .int (iI (pm:Int)))]) X d_Mo_change_21 hl (by decide) rfl (fun ls hl => ?_)
    exact lp1 (n2 + 1) n2 mT (by omega) (by omega) (by omega) (fun j hj hj2 => by omega) (fun j hj => rfl) _ _ ls hw (lv_sub hl [0, 1, 2, 3, 4, 5, 6] rfl)
end
section
set_option maxHeartbeats 4000000 in
set_option maxRecDepth 100000 in
/-- going over what is scanned anew -/
theorem c_Mo_goOver (l : Launch) (D : va_G) (cA : Nat → ClassId) (k : Nat → Nat) (hs : Nat) (a kt t t2 : Nat → Int) (n n2 cn T0 x0 pl po pm : Nat) (stop : Nat → Bool) (mA mK mT mB mZ mO mL mQ : Nat → Int) (tk fa fl oF rm sm em tS tK tL : Int) (hRg1 : Rg a kt t n) (hRg2 : Rg a kt t2 n2) (hgA : ∀ j, j < 200 → mA j = a j) (hgK : ∀ j, j < 20 → mK j = kt j) (htx : ∀ i, i < n2 → mT i = t2 i) (hC : IsC (sc a kt t n) n cn) (hTK : TK (sc a kt t n) cn T0) (hQ : ∀ j, j < T0 → mQ j = (bg (sc a kt t n) j : Nat)) (hoF : T0 = cn ∧ oF = -1 ∨ T0 + 1 = cn ∧ oF = (bg (sc a kt t n) T0 : Nat)) (hSt : St (sc a kt t n) cn pl po pm stop) (hpo : pl + po ≤ n) (hn2 : n2 + po = n + pm) (hx0 : x0 ≤ n2) : Met l y_Mo_goOver (cW y_Mo_goOver b_Mo_goOver 7 none) (rM 1 23) (zP [.ref (k 0), .int (iI (x0:Int)), .int (iI (pl:Int)), .int (iI (po:Int)), .int (iI (pm:Int))] D cA (w_Mo k cA mA mK mT (n2:Int) tk mB mZ mO mL fa fl (T0:Int) mQ oF (n:Int) rm sm em tS tK tL) hs) (zQv (fun u : Int × Int × Int × Int × Int => (u.1, u.2.1) = (gov (sc a kt t2 n2) n2 stop 402 x0 rm sm)) (fun u => (w_Mo k cA mA mK mT (n2:Int) tk mB mZ mO mL fa fl (T0:Int) mQ oF (n:Int) u.1 u.2.1 em u.2.2.1 u.2.2.2.1 u.2.2.2.2)) D (w_Mo k cA mA mK mT (n2:Int) tk mB mZ mO mL fa fl (T0:Int) mQ oF (n:Int) rm sm em tS tK tL) hs) 0 0 (va_A (w_Mo k cA mA mK mT (n2:Int) tk mB mZ mO mL fa fl (T0:Int) mQ oF (n:Int) rm sm em tS tK tL) hs) := by
  refine z_ofW (lv := [(0, .ref (k 0)), (1, .int (iI (x0:Int))), (2, .int (iI (pl:Int))), (3, .int (iI (po:Int))), (4, .int (iI (pm:Int)))]) (by decide) (Nat.le_of_ble_eq_true rfl) rfl ?_
  intro p e s m below meth c ls hr hlk hnm X hhs hw hl
  have X : Cx p s m ([.ref (k 0), .int (iI (x0:Int)), .int (iI (pl:Int)), .int (iI (po:Int)), .int (iI (pm:Int))] : List Value).toArray c b_Mo_goOver 7 R_Mo D cA := X
  have hn1 := hRg1.2.2.2
  have hn24 := hRg2.2.2.2
  have hg2 := sc_GF hRg2
  have hcle := IsC_le hC
  have hTc : T0 ≤ cn := by rcases hTK with ⟨_, q⟩ | ⟨_, q⟩ <;> omega
  have hB : ∀ j, j < cn → bg (sc a kt t n) j < n := hC.1
  have hoFr : -1 ≤ oF ∧ oF < 1000 := by
    rcases hoF with ⟨_, q⟩ | ⟨q1, q⟩
    · omega
    · have := hB T0 (by omega)
      omega
  have lp : ∀ (f : Nat) (x v : Nat) (b r1 a1 y1 y2 y3 : Int), (b = 1 ∧ n2 + 2 ≤ f + x ∧ n2 < v + x ∧ x ≤ n2 ∧ gov (sc a kt t2 n2) n2 stop v x r1 a1 = (gov (sc a kt t2 n2) n2 stop 402 x0 rm sm) ∨ b = 0 ∧ 1 ≤ f ∧ (r1, a1) = (gov (sc a kt t2 n2) n2 stop 402 x0 rm sm)) → ∀ (H : Heap) (locs : List Loc) (ls : Array Slot), Wd D (va_A (w_Mo k cA mA mK mT (n2:Int) tk mB mZ mO mL fa fl (T0:Int) mQ oF (n:Int) rm sm em tS tK tL) hs) s.heap (w_Mo k cA mA mK mT (n2:Int) tk mB mZ mO mL fa fl (T0:Int) mQ oF (n:Int) r1 a1 em y1 y2 y3) H locs → lv_has ls 7 [(6, .int (iI b)), (5, .int (iI (x:Int))), (0, .ref (k 0)), (1, .int (iI (x0:Int))), (2, .int (iI (pl:Int))), (3, .int (iI (po:Int))), (4, .int (iI (pm:Int)))] → W p l e (rM 1 23) s m ([.ref (k 0), .int (iI (x0:Int)), .int (iI (pl:Int)), .int (iI (po:Int)), .int (iI (pm:Int))] : List Value).toArray below meth c H locs 0 0 (MQ below (zQv (fun u : Int × Int × Int × Int × Int => (u.1, u.2.1) = (gov (sc a kt t2 n2) n2 stop 402 x0 rm sm)) (fun u => (w_Mo k cA mA mK mT (n2:Int) tk mB mZ mO mL fa fl (T0:Int) mQ oF (n:Int) u.1 u.2.1 em u.2.2.1 u.2.2.2.1 u.2.2.2.2)) D (w_Mo k cA mA mK mT (n2:Int) tk mB mZ mO mL fa fl (T0:Int) mQ oF (n:Int) rm sm em tS tK tL) hs) ([.ref (k 0), .int (iI (x0:Int)), .int (iI (pl:Int)), .int (iI (po:Int)), .int (iI (pm:Int))] : List Value).toArray s 0 0 (va_A (w_Mo k cA mA mK mT (n2:Int) tk mB mZ mO mL fa fl (T0:Int) mQ oF (n:Int) rm sm em tS tK tL) hs)) (F0 m 6 ls []) := by
    intro f
    induction f with
    | zero =>
      intro x v b r1 a1 y1 y2 y3 hb H locs ls hw hl
      exfalso; omega
    | succ f ih =>
      intro x v b r1 a1 y1 y2 y3 hb H locs ls hw hl
      refine lv_iload X.1 X.2.1 d_Mo_goOver_6 (lv_at hl 0 rfl) ?_
      refine z_if_eq (tgt := 98) X d_Mo_goOver_8 (by decide) (by rcases hb with q | q <;> omega) (fun c_8 => ?_) (fun c_8 => ?_)
      · rcases hb with q | q
        · omega
        · exact z_vret X hr hlk (r1, a1, y1, y2, y3) q.2.2 hw d_Mo_goOver_98
      · refine lv_iload X.1 X.2.1 d_Mo_goOver_11 (lv_at hl 1 rfl) ?_
        refine lv_aload_n X.1 X.2.1 d_Mo_goOver_13 rfl (lv_at hl 2 rfl) ?_
        refine z_get X hw k_Mo 0 rfl 3 (by decide) rfl m_fl_Mo_41 rfl d_Mo_goOver_14 ?_
        refine z_icmp_ge (tgt := 98) X d_Mo_goOver_17 (by decide) (by omega) (by omega) (fun c_17 => ?_) (fun c_17 => ?_)
        · rcases hb with q | q
          · exact z_vret X hr hlk (r1, a1, y1, y2, y3) (by rw [← q.2.2.2.2, gov_stop (by omega)]) hw d_Mo_goOver_98
          · omega
        · obtain ⟨hb1, hmf, hmv, hxn, hgv⟩ : b = 1 ∧ n2 + 2 ≤ f + 1 + x ∧ n2 < v + x ∧ x ≤ n2 ∧ gov (sc a kt t2 n2) n2 stop v x r1 a1 = (gov (sc a kt t2 n2) n2 stop 402 x0 rm sm) := by
            rcases hb with q | q
            · exact q
            · omega
          have hgf := hg2 x (by omega)
          obtain ⟨v1, hv1⟩ : ∃ v1, v = v1 + 1 := ⟨v - 1, by omega⟩
          have K43 : stop x = false → W p l e (rM 1 23) s m ([.ref (k 0), .int (iI (x0:Int)), .int (iI (pl:Int)), .int (iI (po:Int)), .int (iI (pm:Int))] : List Value).toArray below meth c H locs 0 0 (MQ below (zQv (fun u : Int × Int × Int × Int × Int => (u.1, u.2.1) = (gov (sc a kt t2 n2) n2 stop 402 x0 rm sm)) (fun u => (w_Mo k cA mA mK mT (n2:Int) tk mB mZ mO mL fa fl (T0:Int) mQ oF (n:Int) u.1 u.2.1 em u.2.2.1 u.2.2.2.1 u.2.2.2.2)) D (w_Mo k cA mA mK mT (n2:Int) tk mB mZ mO mL fa fl (T0:Int) mQ oF (n:Int) rm sm em tS tK tL) hs) ([.ref (k 0), .int (iI (x0:Int)), .int (iI (pl:Int)), .int (iI (po:Int)), .int (iI (pm:Int))] : List Value).toArray s 0 0 (va_A (w_Mo k cA mA mK mT (n2:Int) tk mB mZ mO mL fa fl (T0:Int) mQ oF (n:Int) rm sm em tS tK tL) hs)) (F0 m 43 ls []) := by
            intro hsf
            refine lv_aload_n X.1 X.2.1 d_Mo_goOver_43 rfl (lv_at hl 2 rfl) ?_
            refine lv_iload X.1 X.2.1 d_Mo_goOver_44 (lv_at hl 1 rfl) ?_
            refine z_afterI (w2 := fun u => (w_Mo k cA mA mK mT (n2:Int) tk mB mZ mO mL fa fl (T0:Int) mQ oF (n:Int) r1 a1 em (u.2.1:Int) u.2.2 (u.1:Int))) (wr := []) hw (z_runV (rest := []) X hw k_Mo v_Mo_68 [.int (iI (x:Int))] (c_Mo_scan l D cA k _ a kt t2 n2 mA mK mT mB mZ mO mL mQ tk fa fl (T0:Int) oF (n:Int) r1 a1 em y1 y2 y3 x hRg2 hgA hgK htx (by omega)) 0 rfl [0, 1, 2, 3, 4, 5, 6, 7, 8] rfl rfl rfl rfl hl.1 rfl (Nat.le_of_ble_eq_true rfl) ⟨rfl, rfl, Nat.le_of_ble_eq_true rfl, Nat.le_of_ble_eq_true rfl⟩ ⟨Nat.le_of_ble_eq_true rfl, Nat.le_of_ble_eq_true rfl⟩ d_Mo_goOver_46) [0, 1, 2, 3, 4, 5, 6, 7, 8] [] [0, 1, 2, 3, 4, 5, 6, 7, 8] rfl rfl rfl (by decide) rfl (fun _ => rfl) (fun _ => rfl) (fun z_46 u_46 H locs hu_46 hw => ?_)
            obtain ⟨hu0, hu1⟩ := hu_46
            subst hu0
            refine z_istore (lv' := [(6, .int (iI z_46)), (5, .int (iI (x:Int))), (0, .ref (k 0)), (1, .int (iI (x0:Int))), (2, .int (iI (pl:Int))), (3, .int (iI (po:Int))), (4, .int (iI (pm:Int)))]) X d_Mo_goOver_49 hl (by decide) rfl (fun ls hl => ?_)
            refine lv_aload_n X.1 X.2.1 d_Mo_goOver_51 rfl (lv_at hl 2 rfl) ?_
            refine lv_aload_n X.1 X.2.1 d_Mo_goOver_52 rfl (lv_at hl 2 rfl) ?_
            refine z_get X hw k_Mo 0 rfl 15 (by decide) rfl m_fl_Mo_50 rfl d_Mo_goOver_53 ?_
            refine lv_aload_n X.1 X.2.1 d_Mo_goOver_56 rfl (lv_at hl 2 rfl) ?_
            refine z_get X hw k_Mo 0 rfl 20 (by decide) rfl m_fl_Mo_65 rfl d_Mo_goOver_57 ?_
            refine z_iadd (r := (r1 + ((((sc a kt t2 n2) x).1 : Nat):Int))) X d_Mo_goOver_60 rfl ?_
            refine z_put (ws' := (w_Mo k cA mA mK mT (n2:Int) tk mB mZ mO mL fa fl (T0:Int) mQ oF (n:Int) (r1 + ((((sc a kt t2 n2) x).1 : Nat):Int)) a1 em ((((sc a kt t2 n2) x).2.1 : Nat):Int) (((sc a kt t2 n2) x).2.2) ((((sc a kt t2 n2) x).1 : Nat):Int))) X hw k_Mo 0 rfl 15 (by decide) rfl rfl (Nat.le_of_ble_eq_true rfl) m_fl_Mo_50 rfl d_Mo_goOver_61 rfl (fun H locs hw => ?_)
            refine lv_aload_n X.1 X.2.1 d_Mo_goOver_64 rfl (lv_at hl 2 rfl) ?_
            refine lv_iload X.1 X.2.1 d_Mo_goOver_65 (lv_at hl 0 rfl) ?_
            refine z_if_eq (tgt := 79) X d_Mo_goOver_67 (by decide) (by rcases hu1 with ⟨q, _⟩ | ⟨q, _⟩ <;> omega) (fun c_67 => ?_) (fun c_67 => ?_)
            · refine lv_aload_n X.1 X.2.1 d_Mo_goOver_79 rfl (lv_at hl 2 rfl) ?_
              refine z_get X hw k_Mo 0 rfl 16 (by decide) rfl m_fl_Mo_53 rfl d_Mo_goOver_80 ?_
              refine z_put (ws' := (w_Mo k cA mA mK mT (n2:Int) tk mB mZ mO mL fa fl (T0:Int) mQ oF (n:Int) (r1 + ((((sc a kt t2 n2) x).1 : Nat):Int)) a1 em ((((sc a kt t2 n2) x).2.1 : Nat):Int) (((sc a kt t2 n2) x).2.2) ((((sc a kt t2 n2) x).1 : Nat):Int))) X hw k_Mo 0 rfl 16 (by decide) rfl rfl (Nat.le_of_ble_eq_true rfl) m_fl_Mo_53 rfl d_Mo_goOver_83 rfl (fun H locs hw => ?_)
              refine lv_iload X.1 X.2.1 d_Mo_goOver_86 (lv_at hl 1 rfl) ?_
              refine lv_aload_n X.1 X.2.1 d_Mo_goOver_88 rfl (lv_at hl 2 rfl) ?_
              refine z_get X hw k_Mo 0 rfl 18 (by decide) rfl m_fl_Mo_59 rfl d_Mo_goOver_89 ?_
              refine z_iadd (r := ((x + ((sc a kt t2 n2) x).2.1 : Nat):Int)) X d_Mo_goOver_92 (by omega) ?_
              refine z_istore (lv' := [(5, .int (iI ((x + ((sc a kt t2 n2) x).2.1 : Nat):Int))), (6, .int (iI z_46)), (0, .ref (k 0)), (1, .int (iI (x0:Int))), (2, .int (iI (pl:Int))), (3, .int (iI (po:Int))), (4, .int (iI (pm:Int)))]) X d_Mo_goOver_93 hl (by decide) rfl (fun ls hl => ?_)
              refine z_goto (tgt := 6) X d_Mo_goOver_95 (by decide) ?_
              have hsz : ((sc a kt t2 n2) x).2.1 = 0 := by rcases hu1 with ⟨q, _⟩ | ⟨_, q⟩ <;> omega
              exact ih (x + ((sc a kt t2 n2) x).2.1) v1 z_46 (r1 + ((((sc a kt t2 n2) x).1 : Nat):Int)) a1 ((((sc a kt t2 n2) x).2.1 : Nat):Int) (((sc a kt t2 n2) x).2.2) ((((sc a kt t2 n2) x).1 : Nat):Int) (Or.inr ⟨c_67, by omega, by rw [← hgv, hv1, gov_fail (by omega) hsf hsz]⟩) H locs ls hw (lv_sub hl [1, 0, 2, 3, 4, 5, 6] rfl)
            · refine lv_aload_n X.1 X.2.1 d_Mo_goOver_70 rfl (lv_at hl 2 rfl) ?_
              refine z_get X hw k_Mo 0 rfl 16 (by decide) rfl m_fl_Mo_53 rfl d_Mo_goOver_71 ?_
              refine z_iconst X d_Mo_goOver_74 ?_
              refine z_iadd (r := (a1 + 1)) X d_Mo_goOver_75 rfl ?_
              refine z_goto (tgt := 83) X d_Mo_goOver_76 (by decide) ?_
              refine z_put (ws' := (w_Mo k cA mA mK mT (n2:Int) tk mB mZ mO mL fa fl (T0:Int) mQ oF (n:Int) (r1 + ((((sc a kt t2 n2) x).1 : Nat):Int)) (a1 + 1) em ((((sc a kt t2 n2) x).2.1 : Nat):Int) (((sc a kt t2 n2) x).2.2) ((((sc a kt t2 n2) x).1 : Nat):Int))) X hw k_Mo 0 rfl 16 (by decide) rfl rfl (Nat.le_of_ble_eq_true rfl) m_fl_Mo_53 rfl d_Mo_goOver_83 rfl (fun H locs hw => ?_)
              refine lv_iload X.1 X.2.1 d_Mo_goOver_86 (lv_at hl 1 rfl) ?_
              refine lv_aload_n X.1 X.2.1 d_Mo_goOver_88 rfl (lv_at hl 2 rfl) ?_
              refine z_get X hw k_Mo 0 rfl 18 (by decide) rfl m_fl_Mo_59 rfl d_Mo_goOver_89 ?_
              refine z_iadd (r := ((x + ((sc a kt t2 n2) x).2.1 : Nat):Int)) X d_Mo_goOver_92 (by omega) ?_
              refine z_istore (lv' := [(5, .int (iI ((x + ((sc a kt t2 n2) x).2.1 : Nat):Int))), (6, .int (iI z_46)), (0, .ref (k 0)), (1, .int (iI (x0:Int))), (2, .int (iI (pl:Int))), (3, .int (iI (po:Int))), (4, .int (iI (pm:Int)))]) X d_Mo_goOver_93 hl (by decide) rfl (fun ls hl => ?_)
              refine z_goto (tgt := 6) X d_Mo_goOver_95 (by decide) ?_
              have hsp : ¬ ((sc a kt t2 n2) x).2.1 = 0 := by rcases hu1 with ⟨_, q⟩ | ⟨q, _⟩ <;> omega
              exact ih (x + ((sc a kt t2 n2) x).2.1) v1 z_46 (r1 + ((((sc a kt t2 n2) x).1 : Nat):Int)) (a1 + 1) ((((sc a kt t2 n2) x).2.1 : Nat):Int) (((sc a kt t2 n2) x).2.2) ((((sc a kt t2 n2) x).1 : Nat):Int) (Or.inl ⟨by omega, by omega, by omega, by omega, by rw [← hgv, hv1, gov_go (by omega) hsf hsp]⟩) H locs ls hw (lv_sub hl [1, 0, 2, 3, 4, 5, 6] rfl)
          have hsx := hSt x
          refine lv_iload X.1 X.2.1 d_Mo_goOver_20 (lv_at hl 1 rfl) ?_
          refine lv_iload_n X.1 X.2.1 d_Mo_goOver_22 rfl (lv_at hl 4 rfl) ?_
          refine lv_iload X.1 X.2.1 d_Mo_goOver_23 (lv_at hl 6 rfl) ?_
          refine z_iadd (r := ((pl:Int) + (pm:Int))) X d_Mo_goOver_25 rfl ?_
          refine z_icmp_lt (tgt := 43) X d_Mo_goOver_26 (by decide) (by omega) (by omega) (fun c_26 => ?_) (fun c_26 => ?_)
          · exact K43 (Bool.eq_false_iff.mpr (fun q => by have := (hsx.mp q).1; omega))
          · have hst : stop x = true ↔ (((x + po - pm : Nat):Int) = oF ∨ ((x + po - pm : Nat):Int) = (n:Int) ∨ ∃ j, j < T0 ∧ mQ j = ((x + po - pm : Nat):Int)) := by
              rw [hsx]
              constructor
              · rintro ⟨_, i, h1, h2⟩
                rcases hoF with ⟨q1, q2⟩ | ⟨q1, q2⟩
                · exact Or.inr (Or.inr ⟨i, by omega, by rw [hQ i (by omega)]; omega⟩)
                · by_cases e0 : i = T0
                  · subst e0
                    exact Or.inl (by omega)
                  · exact Or.inr (Or.inr ⟨i, by omega, by rw [hQ i (by omega)]; omega⟩)
              · rintro (h1 | h1 | ⟨j, h1, h2⟩)
                · rcases hoF with ⟨q1, q2⟩ | ⟨q1, q2⟩
                  · omega
                  · exact ⟨by omega, T0, by omega, by omega⟩
                · omega
                · have := hQ j h1
                  exact ⟨by omega, j, by omega, by omega⟩
            refine lv_aload_n X.1 X.2.1 d_Mo_goOver_29 rfl (lv_at hl 2 rfl) ?_
            refine lv_iload X.1 X.2.1 d_Mo_goOver_30 (lv_at hl 1 rfl) ?_
            refine lv_iload X.1 X.2.1 d_Mo_goOver_32 (lv_at hl 6 rfl) ?_
            refine z_isub (r := ((x:Int) - (pm:Int))) X d_Mo_goOver_34 rfl ?_
            refine lv_iload_n X.1 X.2.1 d_Mo_goOver_35 rfl (lv_at hl 5 rfl) ?_
            refine z_iadd (r := ((x + po - pm : Nat):Int)) X d_Mo_goOver_36 (by omega) ?_
            refine z_callR (rest := []) X hw k_Mo v_Mo_96 [.int (iI ((x + po - pm : Nat):Int))] (c_Mo_began l D cA k _ mA mK mT mB mZ mO mL mQ (n2:Int) tk fa fl oF (n:Int) r1 a1 em y1 y2 y3 T0 ((x + po - pm : Nat):Int) (by omega) (by omega) hoFr (by omega) (fun j hj => by have q1 := hQ j hj; have q2 := hB j (by omega); omega)) 0 rfl [0, 1, 2, 3, 4, 5, 6, 7, 8] rfl rfl rfl rfl hl.1 rfl (Nat.le_of_ble_eq_true rfl) ⟨rfl, rfl, Nat.le_of_ble_eq_true rfl, Nat.le_of_ble_eq_true rfl⟩ ⟨Nat.le_of_ble_eq_true rfl, Nat.le_of_ble_eq_true rfl⟩ d_Mo_goOver_37 (fun z_37 hz_37 => ?_)
            refine z_if_ne (tgt := 98) X d_Mo_goOver_40 (by decide) (by rcases hz_37 with ⟨q, _⟩ | ⟨q, _⟩ <;> omega) (fun c_40 => ?_) (fun c_40 => ?_)
            · rcases hb with q | q
              · exact z_vret X hr hlk (r1, a1, y1, y2, y3) (by rw [← q.2.2.2.2, gov_stop (fun w => by
                have q3 : stop x = true := hst.mpr (hz_37.elim (fun q => q.2) (fun q => absurd q.1 c_40))
                rw [q3] at w
                exact absurd w.2 (by decide))]) hw d_Mo_goOver_98
              · omega
            · exact K43 (Bool.eq_false_iff.mpr (fun q => (hz_37.elim (fun w => by omega) (fun w => w.2)) (hst.mp q)))
  refine lv_iload_n X.1 X.2.1 d_Mo_goOver_0 rfl (lv_at hl 1 rfl) ?_
  refine z_istore (lv' := [(5, .int (iI (x0:Int))), (0, .ref (k 0)), (1, .int (iI (x0:Int))), (2, .int (iI (pl:Int))), (3, .int (iI (po:Int))), (4, .int (iI (pm:Int)))]) X d_Mo_goOver_1 hl (by decide) rfl (fun ls hl => ?_)
  refine z_iconst X d_Mo_goOver_3 ?_
  refine z_istore (lv' := [(6, .int (iI 1)), (5, .int (iI (x0:Int))), (0, .ref (k 0)), (1, .int (iI (x0:Int))), (2, .int (iI (pl:Int))), (3, .int (iI (po:Int))), (4, .int (iI (pm:Int)))]) X d_Mo_goOver_4 hl (by decide) rfl (fun ls hl => ?_)
  exact lp 402 x0 402 1 rm sm tS tK tL (Or.inl ⟨rfl, by omega, by omega, hx0, rfl⟩) _ _ ls hw (lv_sub hl [0, 1, 2, 3, 4, 5, 6] rfl)
end
section
/-- where going over begins, of those from the q-th on -/
def SV (F : Nat → Nat × Nat × Int) (n cn pl q : Nat) (x : Int) : Prop := ∃ i, q ≤ i ∧ i ≤ cn ∧ (∀ j, q ≤ j → j < i → bg F j + (F (bg F j)).1 ≤ pl) ∧ (i < cn → pl < bg F i + (F (bg F i)).1) ∧ (i < cn ∧ x = (bg F i : Nat) ∨ i = cn ∧ n = 0 ∧ x = 0 ∨ i = cn ∧ n ≠ 0 ∧ x = -1)
theorem et_congr {f t w : Nat → Int} {n n2 pl po pm : Nat} (h : ∀ i, i < n → f i = t i) (h1 : pl + po ≤ n) (h2 : n2 + po = n + pm) : ∀ i, i < n2 → et f pl po pm w i = et t pl po pm w i := by
  intro i hi
  unfold et
  by_cases q : i < pl
  · rw [if_pos q, if_pos q]; exact h i (by omega)
  · rw [if_neg q, if_neg q]
    by_cases q2 : i < pl + pm
    · rw [if_pos q2, if_pos q2]
    · rw [if_neg q2, if_neg q2]; exact h _ (by omega)
set_option maxHeartbeats 4000000 in
set_option maxRecDepth 100000 in
/-- an edit that is not taken -/
theorem c_Mo_edit_bad (l : Launch) (D : va_G) (cA : Nat → ClassId) (k : Nat → Nat) (hs : Nat) (mA mK mT mB mZ mO mL mQ : Nat → Int) (tk fa fl oT oF oS rm sm em tS tK tL : Int) (n : Nat) (zp zo zn : Int) (v0 : Int64) (hzp : -2147483648 ≤ zp ∧ zp < 2147483648) (hzo : -2147483648 ≤ zo ∧ zo < 2147483648) (hzn : -2147483648 ≤ zn ∧ zn < 2147483648) (hn4 : n ≤ 400) (hbad : ¬ okE n zp zo zn v0) : Met l y_Mo_edit (cW y_Mo_edit b_Mo_edit 9 (some .int)) (rM 0 0) (zP [.ref (k 0), .int (iI zp), .int (iI zo), .long v0, .int (iI zn)] D cA (w_Mo k cA mA mK mT (n:Int) tk mB mZ mO mL fa fl oT mQ oF oS rm sm em tS tK tL) hs) (Qro (fun z => z = -1)) 0 0 (fun _ => False) := by
  refine z_ofW (lv := [(0, .ref (k 0)), (1, .int (iI zp)), (2, .int (iI zo)), (3, .long v0), (5, .int (iI zn))]) (by decide) (Nat.le_of_ble_eq_true rfl) rfl ?_
  intro p e s m below meth c ls hr hlk hnm X hhs hw hl
  have X : Cx p s m ([.ref (k 0), .int (iI zp), .int (iI zo), .long v0, .int (iI zn)] : List Value).toArray c b_Mo_edit 9 R_Mo D cA := X
  have K57 : W p l e (rM 0 0) s m ([.ref (k 0), .int (iI zp), .int (iI zo), .long v0, .int (iI zn)] : List Value).toArray below meth c s.heap [] 0 0 (MQ below (Qro (fun z => z = -1)) ([.ref (k 0), .int (iI zp), .int (iI zo), .long v0, .int (iI zn)] : List Value).toArray s 0 0 (fun _ => False)) (F0 m 57 ls []) := by
    refine z_iconst X d_Mo_edit_57 ?_
    refine z_istore (lv' := [(6, .int (iI 0)), (0, .ref (k 0)), (1, .int (iI zp)), (2, .int (iI zo)), (3, .long v0), (5, .int (iI zn))]) X d_Mo_edit_58 hl (by decide) rfl (fun ls hl => ?_)
    refine z_iconst X d_Mo_edit_60 ?_
    refine z_istore (lv' := [(7, .int (iI 0)), (6, .int (iI 0)), (0, .ref (k 0)), (1, .int (iI zp)), (2, .int (iI zo)), (3, .long v0), (5, .int (iI zn))]) X d_Mo_edit_61 hl (by decide) rfl (fun ls hl => ?_)
    refine lv_iload X.1 X.2.1 d_Mo_edit_63 (lv_at hl 0 rfl) ?_
    refine lv_iload X.1 X.2.1 d_Mo_edit_65 (lv_at hl 6 rfl) ?_
    refine z_icmp_ge (tgt := 105) X d_Mo_edit_67 (by decide) (by omega) (by omega) (fun c_67 => ?_) (fun c_67 => ?_)
    · refine lv_iload X.1 X.2.1 d_Mo_edit_105 (lv_at hl 1 rfl) ?_
      refine z_if_ne (tgt := 112) X d_Mo_edit_107 (by decide) (by omega) (fun c_107 => ?_) (fun c_107 => ?_)
      · exfalso; omega
      · refine z_iconst X d_Mo_edit_110 ?_
        exact z_iretR X hr hlk rfl rfl d_Mo_edit_111
    · refine lv_iload X.1 X.2.1 d_Mo_edit_70 (lv_at hl 1 rfl) ?_
      refine z_if_eq (tgt := 105) X d_Mo_edit_72 (by decide) (by omega) (fun c_72 => ?_) (fun c_72 => ?_)
      · refine lv_iload X.1 X.2.1 d_Mo_edit_105 (lv_at hl 1 rfl) ?_
        refine z_if_ne (tgt := 112) X d_Mo_edit_107 (by decide) (by omega) (fun c_107 => ?_) (fun c_107 => ?_)
        · exfalso; omega
        · refine z_iconst X d_Mo_edit_110 ?_
          exact z_iretR X hr hlk rfl rfl d_Mo_edit_111
      · exfalso; omega
  refine lv_iload X.1 X.2.1 d_Mo_edit_0 (lv_at hl 4 rfl) ?_
  refine z_if_lt (tgt := 57) X d_Mo_edit_2 (by decide) (by omega) (fun c_2 => ?_) (fun c_2 => ?_)
  · exact K57
  · refine lv_iload X.1 X.2.1 d_Mo_edit_5 (lv_at hl 4 rfl) ?_
    refine z_bipush X d_Mo_edit_7 (by decide) ?_
    refine z_icmp_gt (tgt := 57) X d_Mo_edit_9 (by decide) (by omega) (by omega) (fun c_9 => ?_) (fun c_9 => ?_)
    · exact K57
    · refine lv_iload_n X.1 X.2.1 d_Mo_edit_12 rfl (lv_at hl 1 rfl) ?_
      refine z_if_lt (tgt := 57) X d_Mo_edit_13 (by decide) (by omega) (fun c_13 => ?_) (fun c_13 => ?_)
      · exact K57
      · refine lv_iload_n X.1 X.2.1 d_Mo_edit_16 rfl (lv_at hl 2 rfl) ?_
        refine z_if_lt (tgt := 57) X d_Mo_edit_17 (by decide) (by omega) (fun c_17 => ?_) (fun c_17 => ?_)
        · exact K57
        · refine lv_iload_n X.1 X.2.1 d_Mo_edit_20 rfl (lv_at hl 1 rfl) ?_
          refine lv_aload_n X.1 X.2.1 d_Mo_edit_21 rfl (lv_at hl 0 rfl) ?_
          refine z_get X hw k_Mo 0 rfl 3 (by decide) rfl m_fl_Mo_41 rfl d_Mo_edit_22 ?_
          refine z_icmp_gt (tgt := 57) X d_Mo_edit_25 (by decide) (by omega) (by omega) (fun c_25 => ?_) (fun c_25 => ?_)
          · exact K57
          · refine lv_iload_n X.1 X.2.1 d_Mo_edit_28 rfl (lv_at hl 2 rfl) ?_
            refine lv_aload_n X.1 X.2.1 d_Mo_edit_29 rfl (lv_at hl 0 rfl) ?_
            refine z_get X hw k_Mo 0 rfl 3 (by decide) rfl m_fl_Mo_41 rfl d_Mo_edit_30 ?_
            refine lv_iload_n X.1 X.2.1 d_Mo_edit_33 rfl (lv_at hl 1 rfl) ?_
            refine z_isub (r := ((n:Int) - zp)) X d_Mo_edit_34 rfl ?_
            refine z_icmp_gt (tgt := 57) X d_Mo_edit_35 (by decide) (by omega) (by omega) (fun c_35 => ?_) (fun c_35 => ?_)
            · exact K57
            · refine lv_aload_n X.1 X.2.1 d_Mo_edit_38 rfl (lv_at hl 0 rfl) ?_
              refine z_get X hw k_Mo 0 rfl 3 (by decide) rfl m_fl_Mo_41 rfl d_Mo_edit_39 ?_
              refine lv_iload_n X.1 X.2.1 d_Mo_edit_42 rfl (lv_at hl 2 rfl) ?_
              refine z_isub (r := ((n:Int) - zo)) X d_Mo_edit_43 rfl ?_
              refine lv_iload X.1 X.2.1 d_Mo_edit_44 (lv_at hl 4 rfl) ?_
              refine z_iadd (r := (((n:Int) - zo) + zn)) X d_Mo_edit_46 rfl ?_
              refine z_sipush X d_Mo_edit_47 (by decide) ?_
              refine z_icmp_gt (tgt := 57) X d_Mo_edit_50 (by decide) (by omega) (by omega) (fun c_50 => ?_) (fun c_50 => ?_)
              · exact K57
              · obtain ⟨k0, rfl⟩ : ∃ k0 : Nat, zn = (k0:Int) := ⟨zn.toNat, by omega⟩
                have lp : ∀ (f : Nat) (i : Nat) (b : Int), i ≤ k0 → k0 < f + i → (b = 1 ∧ (∀ j, j < i → nb v0 (4 * (j : Int)) < 10) ∨ b = 0 ∧ ∃ j, j < i ∧ ¬ nb v0 (4 * (j : Int)) < 10) → ∀ (ls : Array Slot), lv_has ls 9 [(7, .int (iI (i:Int))), (6, .int (iI b)), (0, .ref (k 0)), (1, .int (iI zp)), (2, .int (iI zo)), (3, .long v0), (5, .int (iI (k0:Int)))] → W p l e (rM 0 0) s m ([.ref (k 0), .int (iI zp), .int (iI zo), .long v0, .int (iI (k0:Int))] : List Value).toArray below meth c s.heap [] 0 0 (MQ below (Qro (fun z => z = -1)) ([.ref (k 0), .int (iI zp), .int (iI zo), .long v0, .int (iI (k0:Int))] : List Value).toArray s 0 0 (fun _ => False)) (F0 m 63 ls []) := by
                  intro f
                  induction f with
                  | zero =>
                    intro i b hi hf hb ls hl
                    exfalso; omega
                  | succ f ih =>
                    intro i b hi hf hb ls hl
                    refine lv_iload X.1 X.2.1 d_Mo_edit_63 (lv_at hl 0 rfl) ?_
                    refine lv_iload X.1 X.2.1 d_Mo_edit_65 (lv_at hl 6 rfl) ?_
                    refine z_icmp_ge (tgt := 105) X d_Mo_edit_67 (by decide) (by omega) (by omega) (fun c_67 => ?_) (fun c_67 => ?_)
                    · refine lv_iload X.1 X.2.1 d_Mo_edit_105 (lv_at hl 1 rfl) ?_
                      refine z_if_ne (tgt := 112) X d_Mo_edit_107 (by decide) (by rcases hb with ⟨q, _⟩ | ⟨q, _⟩ <;> omega) (fun c_107 => ?_) (fun c_107 => ?_)
                      · have hall : aS v0 k0 := fun j hj => by
                          rcases hb with ⟨_, hb⟩ | ⟨hb, _⟩
                          · exact hb j (by omega)
                          · omega
                        exact absurd ⟨by omega, by omega, by rw [Int.toNat_natCast]; exact hall, by omega, by omega, by omega, by omega, by omega⟩ hbad
                      · refine z_iconst X d_Mo_edit_110 ?_
                        exact z_iretR X hr hlk rfl rfl d_Mo_edit_111
                    · refine lv_iload X.1 X.2.1 d_Mo_edit_70 (lv_at hl 1 rfl) ?_
                      refine z_if_eq (tgt := 105) X d_Mo_edit_72 (by decide) (by rcases hb with ⟨q, _⟩ | ⟨q, _⟩ <;> omega) (fun c_72 => ?_) (fun c_72 => ?_)
                      · refine lv_iload X.1 X.2.1 d_Mo_edit_105 (lv_at hl 1 rfl) ?_
                        refine z_if_ne (tgt := 112) X d_Mo_edit_107 (by decide) (by rcases hb with ⟨q, _⟩ | ⟨q, _⟩ <;> omega) (fun c_107 => ?_) (fun c_107 => ?_)
                        · have hall : aS v0 k0 := fun j hj => by
                            rcases hb with ⟨_, hb⟩ | ⟨hb, _⟩
                            · exact hb j (by omega)
                            · omega
                          exact absurd ⟨by omega, by omega, by rw [Int.toNat_natCast]; exact hall, by omega, by omega, by omega, by omega, by omega⟩ hbad
                        · refine z_iconst X d_Mo_edit_110 ?_
                          exact z_iretR X hr hlk rfl rfl d_Mo_edit_111
                      · refine lv_lload_n X.1 X.2.1 d_Mo_edit_75 rfl (lv_at hl 5 rfl) ?_
                        refine z_iconst X d_Mo_edit_76 ?_
                        refine lv_iload X.1 X.2.1 d_Mo_edit_77 (lv_at hl 0 rfl) ?_
                        refine z_imul (r := (4 * (i:Int))) X d_Mo_edit_79 rfl ?_
                        refine lv_lshr X.1 X.2.1 d_Mo_edit_80 rfl ?_
                        refine lv_ldc2 X.1 X.2.1 X.2.2.2.1 (X.2.2.2.2.1 _ m_lc_Mo_81) d_Mo_edit_81 ?_
                        refine lv_land X.1 X.2.1 d_Mo_edit_84 ?_
                        refine lv_ldc2 X.1 X.2.1 X.2.2.2.1 (X.2.2.2.2.1 _ m_lc_Mo_83) d_Mo_edit_85 ?_
                        refine z_nibge (tgt := 96) X d_Mo_edit_88 d_Mo_edit_89 (by decide) (fun c_88 => ?_) (fun c_88 => ?_)
                        · refine z_iconst X d_Mo_edit_96 ?_
                          refine z_istore (lv' := [(6, .int (iI 0)), (7, .int (iI (i:Int))), (0, .ref (k 0)), (1, .int (iI zp)), (2, .int (iI zo)), (3, .long v0), (5, .int (iI (k0:Int)))]) X d_Mo_edit_97 hl (by decide) rfl (fun ls hl => ?_)
                          refine z_iinc (lv' := [(7, .int (iI ((i + 1 : Nat):Int))), (6, .int (iI 0)), (0, .ref (k 0)), (1, .int (iI zp)), (2, .int (iI zo)), (3, .long v0), (5, .int (iI (k0:Int)))]) (r := ((i + 1 : Nat):Int)) (k := 1) X d_Mo_edit_99 hl rfl (by omega) (by decide) rfl (fun ls hl => ?_)
                          refine z_goto (tgt := 63) X d_Mo_edit_102 (by decide) ?_
                          exact ih (i + 1) 0 (by omega) (by omega) (Or.inr ⟨rfl, i, by omega, by omega⟩) ls (lv_sub hl [0, 1, 2, 3, 4, 5, 6] rfl)
                        · refine z_iconst X d_Mo_edit_92 ?_
                          refine z_goto (tgt := 97) X d_Mo_edit_93 (by decide) ?_
                          refine z_istore (lv' := [(6, .int (iI 1)), (7, .int (iI (i:Int))), (0, .ref (k 0)), (1, .int (iI zp)), (2, .int (iI zo)), (3, .long v0), (5, .int (iI (k0:Int)))]) X d_Mo_edit_97 hl (by decide) rfl (fun ls hl => ?_)
                          refine z_iinc (lv' := [(7, .int (iI ((i + 1 : Nat):Int))), (6, .int (iI 1)), (0, .ref (k 0)), (1, .int (iI zp)), (2, .int (iI zo)), (3, .long v0), (5, .int (iI (k0:Int)))]) (r := ((i + 1 : Nat):Int)) (k := 1) X d_Mo_edit_99 hl rfl (by omega) (by decide) rfl (fun ls hl => ?_)
                          refine z_goto (tgt := 63) X d_Mo_edit_102 (by decide) ?_
                          exact ih (i + 1) 1 (by omega) (by omega) (Or.inl ⟨rfl, fun j hj => by
                            by_cases q : j = i
                            · subst q; omega
                            · rcases hb with ⟨_, hb⟩ | ⟨hb, _⟩
                              · exact hb j (by omega)
                              · omega⟩) ls (lv_sub hl [0, 1, 2, 3, 4, 5, 6] rfl)
                refine z_iconst X d_Mo_edit_53 ?_
                refine z_goto (tgt := 58) X d_Mo_edit_54 (by decide) ?_
                refine z_istore (lv' := [(6, .int (iI 1)), (0, .ref (k 0)), (1, .int (iI zp)), (2, .int (iI zo)), (3, .long v0), (5, .int (iI (k0:Int)))]) X d_Mo_edit_58 hl (by decide) rfl (fun ls hl => ?_)
                refine z_iconst X d_Mo_edit_60 ?_
                refine z_istore (lv' := [(7, .int (iI 0)), (6, .int (iI 1)), (0, .ref (k 0)), (1, .int (iI zp)), (2, .int (iI zo)), (3, .long v0), (5, .int (iI (k0:Int)))]) X d_Mo_edit_61 hl (by decide) rfl (fun ls hl => ?_)
                exact lp (k0 + 1) 0 1 (by omega) (by omega) (Or.inl ⟨rfl, fun j hj => absurd hj (Nat.not_lt_zero j)⟩) ls (lv_sub hl [0, 1, 2, 3, 4, 5, 6] rfl)
set_option maxHeartbeats 4000000 in
set_option maxRecDepth 100000 in
/-- an edit that is taken -/
theorem c_Mo_edit_good (l : Launch) (D : va_G) (cA : Nat → ClassId) (k : Nat → Nat) (hs : Nat) (a kt t : Nat → Int) (n cn T : Nat) (mA mK mT mB mZ mO mL mQ : Nat → Int)( fa fl oT oF oS rm sm em tS tK tL : Int) (hI : MI a kt t n cn T mA mK mT mB mZ mO mL fa fl) (t2 : Nat → Int) (n2 pl po k0 : Nat) (v0 : Int64) (stop : Nat → Bool) (hpm : k0 ≤ 16) (haS : aS v0 k0) (hpo : pl + po ≤ n) (hn2 : n2 + po = n + k0) (hn24 : n2 ≤ 400) (ht2 : t2 = et t pl po k0 (wv v0 k0)) (hSt : St (sc a kt t n) cn pl po k0 stop) : Met l y_Mo_edit (cW y_Mo_edit b_Mo_edit 9 (some .int)) (rM 2 49) (zP [.ref (k 0), .int (iI (pl:Int)), .int (iI (po:Int)), .long v0, .int (iI (k0:Int))] D cA (w_Mo k cA mA mK mT (n:Int) (T:Int) mB mZ mO mL fa fl oT mQ oF oS rm sm em tS tK tL) hs) (zQi (fun (z : Int) (u : Nat × Nat × (Nat → Int) × (Nat → Int) × (Nat → Int) × (Nat → Int) × (Nat → Int) × Int × Int × (Nat → Int) × Int × Int × Int × Int × Int) => z = u.2.2.2.2.2.2.2.2.2.2.1 ∧ MI a kt t2 n2 u.1 u.2.1 mA mK u.2.2.1 u.2.2.2.1 u.2.2.2.2.1 u.2.2.2.2.2.1 u.2.2.2.2.2.2.1 u.2.2.2.2.2.2.2.1 u.2.2.2.2.2.2.2.2.1 ∧ EdR (sc a kt t n) (sc a kt t2 n2) n2 cn pl stop (u.2.2.2.2.2.2.2.2.2.2.1, u.2.2.2.2.2.2.2.2.2.2.2.1)) (fun u => (w_Mo k cA mA mK u.2.2.1 (n2:Int) (u.2.1:Int) u.2.2.2.1 u.2.2.2.2.1 u.2.2.2.2.2.1 u.2.2.2.2.2.2.1 u.2.2.2.2.2.2.2.1 u.2.2.2.2.2.2.2.2.1 (T:Int) u.2.2.2.2.2.2.2.2.2.1 fa (n:Int) u.2.2.2.2.2.2.2.2.2.2.1 u.2.2.2.2.2.2.2.2.2.2.2.1 (em + 1) u.2.2.2.2.2.2.2.2.2.2.2.2.1 u.2.2.2.2.2.2.2.2.2.2.2.2.2.1 u.2.2.2.2.2.2.2.2.2.2.2.2.2.2)) D (w_Mo k cA mA mK mT (n:Int) (T:Int) mB mZ mO mL fa fl oT mQ oF oS rm sm em tS tK tL) hs) 0 0 (va_A (w_Mo k cA mA mK mT (n:Int) (T:Int) mB mZ mO mL fa fl oT mQ oF oS rm sm em tS tK tL) hs) := by
  refine z_ofW (lv := [(0, .ref (k 0)), (1, .int (iI (pl:Int))), (2, .int (iI (po:Int))), (3, .long v0), (5, .int (iI (k0:Int)))]) (by decide) (Nat.le_of_ble_eq_true rfl) rfl ?_
  intro p e s m below meth c ls hr hlk hnm X hhs hw hl
  have X : Cx p s m ([.ref (k 0), .int (iI (pl:Int)), .int (iI (po:Int)), .long v0, .int (iI (k0:Int))] : List Value).toArray c b_Mo_edit 9 R_Mo D cA := X
  obtain ⟨hRg, hgA, hgK, htx, hC, hT, hit, hfl⟩ := hI
  have hn4 := hRg.2.2.2
  have hcle := IsC_le hC
  have hTc : T ≤ cn := by rcases hT with ⟨_, q⟩ | ⟨_, q⟩ <;> omega
  have hg1 := sc_GF hRg
  have hRg2 : Rg a kt t2 n2 := by rw [ht2]; exact et_Rg hRg hpo hn2 hn24 haS
  have hER : ER (sc a kt t n) (sc a kt t2 n2) n n2 pl po k0 := by rw [ht2]; exact et_ER hpo hn2
  have hB : ∀ j, j < cn → bg (sc a kt t n) j < n := hC.1
  have hFb : ∀ j, j < cn → bg (sc a kt t n) j + ((sc a kt t n) (bg (sc a kt t n) j)).1 ≤ n + 1 := fun j hj => (hg1 _ (hB j hj)).2.2.1
  have hz0 := IsC_z hC
  have hfr : -1 ≤ fa ∧ fa < 1000 ∧ 0 ≤ fl ∧ fl < 1000 := by
    rcases hfl with ⟨_, q1, q2⟩ | ⟨q0, q1, q2⟩
    · omega
    · have := hFb T (by omega)
      have := hB T (by omega)
      omega
  have K204 : ∀ (x : Int), SV (sc a kt t n) n cn pl 0 x → ∀ (ls : Array Slot), lv_has ls 9 [(7, .int (iI x)), (6, .int (iI 1)), (0, .ref (k 0)), (1, .int (iI (pl:Int))), (2, .int (iI (po:Int))), (3, .long v0), (5, .int (iI (k0:Int)))] → W p l e (rM 2 49) s m ([.ref (k 0), .int (iI (pl:Int)), .int (iI (po:Int)), .long v0, .int (iI (k0:Int))] : List Value).toArray below meth c s.heap [] 0 0 (MQ below (zQi (fun (z : Int) (u : Nat × Nat × (Nat → Int) × (Nat → Int) × (Nat → Int) × (Nat → Int) × (Nat → Int) × Int × Int × (Nat → Int) × Int × Int × Int × Int × Int) => z = u.2.2.2.2.2.2.2.2.2.2.1 ∧ MI a kt t2 n2 u.1 u.2.1 mA mK u.2.2.1 u.2.2.2.1 u.2.2.2.2.1 u.2.2.2.2.2.1 u.2.2.2.2.2.2.1 u.2.2.2.2.2.2.2.1 u.2.2.2.2.2.2.2.2.1 ∧ EdR (sc a kt t n) (sc a kt t2 n2) n2 cn pl stop (u.2.2.2.2.2.2.2.2.2.2.1, u.2.2.2.2.2.2.2.2.2.2.2.1)) (fun u => (w_Mo k cA mA mK u.2.2.1 (n2:Int) (u.2.1:Int) u.2.2.2.1 u.2.2.2.2.1 u.2.2.2.2.2.1 u.2.2.2.2.2.2.1 u.2.2.2.2.2.2.2.1 u.2.2.2.2.2.2.2.2.1 (T:Int) u.2.2.2.2.2.2.2.2.2.1 fa (n:Int) u.2.2.2.2.2.2.2.2.2.2.1 u.2.2.2.2.2.2.2.2.2.2.2.1 (em + 1) u.2.2.2.2.2.2.2.2.2.2.2.2.1 u.2.2.2.2.2.2.2.2.2.2.2.2.2.1 u.2.2.2.2.2.2.2.2.2.2.2.2.2.2)) D (w_Mo k cA mA mK mT (n:Int) (T:Int) mB mZ mO mL fa fl oT mQ oF oS rm sm em tS tK tL) hs) ([.ref (k 0), .int (iI (pl:Int)), .int (iI (po:Int)), .long v0, .int (iI (k0:Int))] : List Value).toArray s 0 0 (va_A (w_Mo k cA mA mK mT (n:Int) (T:Int) mB mZ mO mL fa fl oT mQ oF oS rm sm em tS tK tL) hs)) (F0 m 204 ls []) := by
    intro x hx ls hl
    obtain ⟨i0, _, hi0, hi1, hi2, hi3⟩ := hx
    have hF : IsF (sc a kt t n) pl cn i0 := ⟨hi0, fun j hj => hi1 j (Nat.zero_le _) hj, hi2⟩
    have hbs := bg_same hER hF.2.1
    have hbl : i0 < cn → bg (sc a kt t2 n2) i0 ≤ n2 := fun hq => by
      rcases Nat.eq_zero_or_pos i0 with q | q
      · rw [q]
        exact Nat.zero_le _
      · have e2 := hF.2.1 (i0 - 1) (by omega)
        have e3 := hg1 (bg (sc a kt t n) (i0 - 1)) (hB (i0 - 1) (by omega))
        have e4 : bg (sc a kt t n) i0 = bg (sc a kt t n) (i0 - 1) + ((sc a kt t n) (bg (sc a kt t n) (i0 - 1))).2.1 := by
          have : i0 = i0 - 1 + 1 := by omega
          rw [this]
          rfl
        have e5 := hbs i0 (Nat.le_refl _)
        omega
    have hxr : -2147483648 ≤ x ∧ x < 2147483648 := by
      rcases hi3 with ⟨q1, q2⟩ | ⟨q1, q2, q3⟩ | ⟨q1, q2, q⟩
      · have := hB i0 q1
        omega
      · omega
      · omega
    refine lv_aload_n X.1 X.2.1 d_Mo_edit_204 rfl (lv_at hl 2 rfl) ?_
    refine lv_aload_n X.1 X.2.1 d_Mo_edit_205 rfl (lv_at hl 2 rfl) ?_
    refine z_get X hw k_Mo 0 rfl 4 (by decide) rfl m_fl_Mo_44 rfl d_Mo_edit_206 ?_
    refine z_put (ws' := (w_Mo k cA mA mK mT (n:Int) (T:Int) mB mZ mO mL fa fl (T:Int) mQ oF oS rm sm em tS tK tL)) X hw k_Mo 0 rfl 11 (by decide) rfl rfl (Nat.le_of_ble_eq_true rfl) m_fl_Mo_78 rfl d_Mo_edit_209 rfl (fun H locs hw => ?_)
    refine z_iconst X d_Mo_edit_212 ?_
    refine z_istore (lv' := [(8, .int (iI 0)), (7, .int (iI x)), (6, .int (iI 1)), (0, .ref (k 0)), (1, .int (iI (pl:Int))), (2, .int (iI (po:Int))), (3, .long v0), (5, .int (iI (k0:Int)))]) X d_Mo_edit_213 hl (by decide) rfl (fun ls hl => ?_)
    have lp : ∀ (f : Nat) (i : Nat) (r : Nat → Int), i ≤ T → T < f + i → (∀ j, j < i → r j = mB j) → ∀ (H : Heap) (locs : List Loc) (ls : Array Slot), Wd D (va_A (w_Mo k cA mA mK mT (n:Int) (T:Int) mB mZ mO mL fa fl oT mQ oF oS rm sm em tS tK tL) hs) s.heap (w_Mo k cA mA mK mT (n:Int) (T:Int) mB mZ mO mL fa fl (T:Int) r oF oS rm sm em tS tK tL) H locs → lv_has ls 9 [(8, .int (iI (i:Int))), (7, .int (iI x)), (6, .int (iI 1)), (0, .ref (k 0)), (1, .int (iI (pl:Int))), (2, .int (iI (po:Int))), (3, .long v0), (5, .int (iI (k0:Int)))] → W p l e (rM 2 49) s m ([.ref (k 0), .int (iI (pl:Int)), .int (iI (po:Int)), .long v0, .int (iI (k0:Int))] : List Value).toArray below meth c H locs 0 0 (MQ below (zQi (fun (z : Int) (u : Nat × Nat × (Nat → Int) × (Nat → Int) × (Nat → Int) × (Nat → Int) × (Nat → Int) × Int × Int × (Nat → Int) × Int × Int × Int × Int × Int) => z = u.2.2.2.2.2.2.2.2.2.2.1 ∧ MI a kt t2 n2 u.1 u.2.1 mA mK u.2.2.1 u.2.2.2.1 u.2.2.2.2.1 u.2.2.2.2.2.1 u.2.2.2.2.2.2.1 u.2.2.2.2.2.2.2.1 u.2.2.2.2.2.2.2.2.1 ∧ EdR (sc a kt t n) (sc a kt t2 n2) n2 cn pl stop (u.2.2.2.2.2.2.2.2.2.2.1, u.2.2.2.2.2.2.2.2.2.2.2.1)) (fun u => (w_Mo k cA mA mK u.2.2.1 (n2:Int) (u.2.1:Int) u.2.2.2.1 u.2.2.2.2.1 u.2.2.2.2.2.1 u.2.2.2.2.2.2.1 u.2.2.2.2.2.2.2.1 u.2.2.2.2.2.2.2.2.1 (T:Int) u.2.2.2.2.2.2.2.2.2.1 fa (n:Int) u.2.2.2.2.2.2.2.2.2.2.1 u.2.2.2.2.2.2.2.2.2.2.2.1 (em + 1) u.2.2.2.2.2.2.2.2.2.2.2.2.1 u.2.2.2.2.2.2.2.2.2.2.2.2.2.1 u.2.2.2.2.2.2.2.2.2.2.2.2.2.2)) D (w_Mo k cA mA mK mT (n:Int) (T:Int) mB mZ mO mL fa fl oT mQ oF oS rm sm em tS tK tL) hs) ([.ref (k 0), .int (iI (pl:Int)), .int (iI (po:Int)), .long v0, .int (iI (k0:Int))] : List Value).toArray s 0 0 (va_A (w_Mo k cA mA mK mT (n:Int) (T:Int) mB mZ mO mL fa fl oT mQ oF oS rm sm em tS tK tL) hs)) (F0 m 215 ls []) := by
      intro f
      induction f with
      | zero =>
        intro i r hi hf h1 H locs ls hw hl
        exfalso; omega
      | succ f ih =>
        intro i r hi hf h1 H locs ls hw hl
        refine lv_iload X.1 X.2.1 d_Mo_edit_215 (lv_at hl 0 rfl) ?_
        refine lv_aload_n X.1 X.2.1 d_Mo_edit_217 rfl (lv_at hl 3 rfl) ?_
        refine z_get X hw k_Mo 0 rfl 4 (by decide) rfl m_fl_Mo_44 rfl d_Mo_edit_218 ?_
        refine z_icmp_ge (tgt := 244) X d_Mo_edit_221 (by decide) (by omega) (by omega) (fun c_221 => ?_) (fun c_221 => ?_)
        · refine lv_aload_n X.1 X.2.1 d_Mo_edit_244 rfl (lv_at hl 3 rfl) ?_
          refine lv_aload_n X.1 X.2.1 d_Mo_edit_245 rfl (lv_at hl 3 rfl) ?_
          refine z_get X hw k_Mo 0 rfl 9 (by decide) rfl m_fl_Mo_31 rfl d_Mo_edit_246 ?_
          refine z_put (ws' := (w_Mo k cA mA mK mT (n:Int) (T:Int) mB mZ mO mL fa fl (T:Int) r fa oS rm sm em tS tK tL)) X hw k_Mo 0 rfl 13 (by decide) rfl rfl (Nat.le_of_ble_eq_true rfl) m_fl_Mo_72 rfl d_Mo_edit_249 rfl (fun H locs hw => ?_)
          refine lv_aload_n X.1 X.2.1 d_Mo_edit_252 rfl (lv_at hl 3 rfl) ?_
          refine lv_aload_n X.1 X.2.1 d_Mo_edit_253 rfl (lv_at hl 3 rfl) ?_
          refine z_get X hw k_Mo 0 rfl 3 (by decide) rfl m_fl_Mo_41 rfl d_Mo_edit_254 ?_
          refine z_put (ws' := (w_Mo k cA mA mK mT (n:Int) (T:Int) mB mZ mO mL fa fl (T:Int) r fa (n:Int) rm sm em tS tK tL)) X hw k_Mo 0 rfl 14 (by decide) rfl rfl (Nat.le_of_ble_eq_true rfl) m_fl_Mo_75 rfl d_Mo_edit_257 rfl (fun H locs hw => ?_)
          refine lv_aload_n X.1 X.2.1 d_Mo_edit_260 rfl (lv_at hl 3 rfl) ?_
          refine lv_iload_n X.1 X.2.1 d_Mo_edit_261 rfl (lv_at hl 4 rfl) ?_
          refine lv_iload_n X.1 X.2.1 d_Mo_edit_262 rfl (lv_at hl 5 rfl) ?_
          refine lv_lload_n X.1 X.2.1 d_Mo_edit_263 rfl (lv_at hl 6 rfl) ?_
          refine lv_iload X.1 X.2.1 d_Mo_edit_264 (lv_at hl 7 rfl) ?_
          refine z_afterV (w2 := fun u => (w_Mo k cA mA mK u (n2:Int) (T:Int) mB mZ mO mL fa fl (T:Int) r fa (n:Int) rm sm em tS tK tL)) (wr := []) hw (z_runV (rest := []) X hw k_Mo v_Mo_85 [.int (iI (pl:Int)), .int (iI (po:Int)), .long v0, .int (iI (k0:Int))] (c_Mo_change l D cA k _ mA mK mT mB mZ mO mL r (T:Int) fa fl (T:Int) fa (n:Int) rm sm em tS tK tL n n2 pl po k0 v0 (by omega) hpo hn2 hn24 hn4) 0 rfl [0, 1, 2, 3, 4, 5, 6, 7, 8] rfl rfl rfl rfl hl.1 rfl (Nat.le_of_ble_eq_true rfl) ⟨rfl, rfl, Nat.le_of_ble_eq_true rfl, Nat.le_of_ble_eq_true rfl⟩ ⟨Nat.le_of_ble_eq_true rfl, Nat.le_of_ble_eq_true rfl⟩ d_Mo_edit_266) [0, 1, 2, 3, 4, 5, 6, 7, 8] [] [0, 1, 2, 3, 4, 5, 6, 7, 8] rfl rfl rfl (by decide) rfl (fun _ => rfl) (fun _ => rfl) (fun u_266 H locs hu_266 hw => ?_)
          have htx2 : ∀ i, i < n2 → u_266 i = t2 i := fun i hi => by rw [ht2, hu_266 i hi]; exact et_congr htx hpo hn2 i hi
          refine lv_aload_n X.1 X.2.1 d_Mo_edit_269 rfl (lv_at hl 3 rfl) ?_
          refine lv_dup X.1 X.2.1 d_Mo_edit_270 rfl ?_
          refine z_get X hw k_Mo 0 rfl 17 (by decide) rfl m_fl_Mo_56 rfl d_Mo_edit_271 ?_
          refine z_iconst X d_Mo_edit_274 ?_
          refine z_iadd (r := (em + 1)) X d_Mo_edit_275 rfl ?_
          refine z_put (ws' := (w_Mo k cA mA mK u_266 (n2:Int) (T:Int) mB mZ mO mL fa fl (T:Int) r fa (n:Int) rm sm (em + 1) tS tK tL)) X hw k_Mo 0 rfl 17 (by decide) rfl rfl (Nat.le_of_ble_eq_true rfl) m_fl_Mo_56 rfl d_Mo_edit_276 rfl (fun H locs hw => ?_)
          refine lv_aload_n X.1 X.2.1 d_Mo_edit_279 rfl (lv_at hl 3 rfl) ?_
          refine z_iconst X d_Mo_edit_280 ?_
          refine z_put (ws' := (w_Mo k cA mA mK u_266 (n2:Int) (T:Int) mB mZ mO mL fa fl (T:Int) r fa (n:Int) 0 sm (em + 1) tS tK tL)) X hw k_Mo 0 rfl 15 (by decide) rfl rfl (Nat.le_of_ble_eq_true rfl) m_fl_Mo_50 rfl d_Mo_edit_281 rfl (fun H locs hw => ?_)
          refine lv_aload_n X.1 X.2.1 d_Mo_edit_284 rfl (lv_at hl 3 rfl) ?_
          refine z_iconst X d_Mo_edit_285 ?_
          refine z_put (ws' := (w_Mo k cA mA mK u_266 (n2:Int) (T:Int) mB mZ mO mL fa fl (T:Int) r fa (n:Int) 0 0 (em + 1) tS tK tL)) X hw k_Mo 0 rfl 16 (by decide) rfl rfl (Nat.le_of_ble_eq_true rfl) m_fl_Mo_53 rfl d_Mo_edit_286 rfl (fun H locs hw => ?_)
          refine lv_iload X.1 X.2.1 d_Mo_edit_289 (lv_at hl 1 rfl) ?_
          refine z_if_lt (tgt := 304) X d_Mo_edit_291 (by decide) hxr (fun c_291 => ?_) (fun c_291 => ?_)
          · refine lv_aload_n X.1 X.2.1 d_Mo_edit_304 rfl (lv_at hl 3 rfl) ?_
            refine z_afterV (w2 := fun u => (w_Mo k cA mA mK u_266 (n2:Int) (u.2.1:Int) u.2.2.1 u.2.2.2.1 u.2.2.2.2.1 u.2.2.2.2.2.1 u.2.2.2.2.2.2.1 u.2.2.2.2.2.2.2.1 (T:Int) r fa (n:Int) 0 0 (em + 1) u.2.2.2.2.2.2.2.2.1 u.2.2.2.2.2.2.2.2.2.1 u.2.2.2.2.2.2.2.2.2.2)) (wr := []) hw (z_runV (rest := []) X hw k_Mo v_Mo_93 [] (c_Mo_scanAll l D cA k _ a kt t2 n2 mA mK u_266 mB mZ mO mL r (T:Int) fa fl (T:Int) fa (n:Int) 0 0 (em + 1) tS tK tL hRg2 hgA hgK htx2) 0 rfl [0, 1, 2, 3, 4, 5, 6, 7, 8] rfl rfl rfl rfl hl.1 rfl (Nat.le_of_ble_eq_true rfl) ⟨rfl, rfl, Nat.le_of_ble_eq_true rfl, Nat.le_of_ble_eq_true rfl⟩ ⟨Nat.le_of_ble_eq_true rfl, Nat.le_of_ble_eq_true rfl⟩ d_Mo_edit_305) [0, 1, 2, 3, 4, 5, 6, 7, 8] [] [0, 1, 2, 3, 4, 5, 6, 7, 8] rfl rfl rfl (by decide) rfl (fun _ => rfl) (fun _ => rfl) (fun u_305 H locs hu_305 hw => ?_)
            obtain ⟨c3, T3, b3, z3, o3, l3, f3, f4, y1, y2, y3⟩ := u_305
            dsimp only at hu_305 hw
            refine lv_aload_n X.1 X.2.1 d_Mo_edit_308 rfl (lv_at hl 3 rfl) ?_
            refine z_get X hw k_Mo 0 rfl 15 (by decide) rfl m_fl_Mo_50 rfl d_Mo_edit_309 ?_
            have hsm : i0 = cn ∧ 0 < cn := by
              rcases hi3 with ⟨q1, q2⟩ | ⟨q1, q2, q3⟩ | ⟨q1, q2, q⟩ <;> omega
            exact z_iret X hr hlk rfl (c3, T3, u_266, b3, z3, o3, l3, f3, f4, r, 0, 0, y1, y2, y3) ⟨rfl, hu_305, i0, hF, Or.inl ⟨hsm.1, hsm.2, rfl⟩⟩ hw d_Mo_edit_312
          · have hx2 : bg (sc a kt t2 n2) i0 ≤ n2 := by
              rcases hi3 with ⟨q1, _⟩ | ⟨q1, q2, _⟩ | ⟨_, _, q⟩
              · exact hbl q1
              · rw [show i0 = 0 by omega]; exact Nat.zero_le _
              · omega
            have hxe : x = ((bg (sc a kt t2 n2) i0 : Nat):Int) := by
              rcases hi3 with ⟨q1, q2⟩ | ⟨q1, q2, q3⟩ | ⟨_, _, q⟩
              · rw [q2, hbs i0 (Nat.le_refl _)]
              · rw [q3, show i0 = 0 by omega]; rfl
              · omega
            have hns : ¬ (i0 = cn ∧ 0 < cn) := by
              rcases hi3 with ⟨q1, _⟩ | ⟨q1, q2, _⟩ | ⟨_, _, q⟩ <;> omega
            subst hxe
            have hoF : T = cn ∧ fa = -1 ∨ T + 1 = cn ∧ fa = (bg (sc a kt t n) T : Nat) := by
              rcases hfl with ⟨q1, q2, _⟩ | ⟨q1, q2, _⟩
              · exact Or.inl ⟨q1, q2⟩
              · exact Or.inr ⟨q1, q2⟩
            refine lv_aload_n X.1 X.2.1 d_Mo_edit_294 rfl (lv_at hl 3 rfl) ?_
            refine lv_iload X.1 X.2.1 d_Mo_edit_295 (lv_at hl 1 rfl) ?_
            refine lv_iload_n X.1 X.2.1 d_Mo_edit_297 rfl (lv_at hl 4 rfl) ?_
            refine lv_iload_n X.1 X.2.1 d_Mo_edit_298 rfl (lv_at hl 5 rfl) ?_
            refine lv_iload X.1 X.2.1 d_Mo_edit_299 (lv_at hl 7 rfl) ?_
            refine z_afterV (w2 := fun u => (w_Mo k cA mA mK u_266 (n2:Int) (T:Int) mB mZ mO mL fa fl (T:Int) r fa (n:Int) u.1 u.2.1 (em + 1) u.2.2.1 u.2.2.2.1 u.2.2.2.2)) (wr := []) hw (z_runV (rest := []) X hw k_Mo v_Mo_89 [.int (iI ((bg (sc a kt t2 n2) i0 : Nat):Int)), .int (iI (pl:Int)), .int (iI (po:Int)), .int (iI (k0:Int))] (c_Mo_goOver l D cA k _ a kt t t2 n n2 cn T (bg (sc a kt t2 n2) i0) pl po k0 stop mA mK u_266 mB mZ mO mL r (T:Int) fa fl fa 0 0 (em + 1) tS tK tL hRg hRg2 hgA hgK htx2 hC hT (fun j hj => (h1 j (by omega)).trans (hit j hj).1) hoF hSt hpo hn2 hx2) 0 rfl [0, 1, 2, 3, 4, 5, 6, 7, 8] rfl rfl rfl rfl hl.1 rfl (Nat.le_of_ble_eq_true rfl) ⟨rfl, rfl, Nat.le_of_ble_eq_true rfl, Nat.le_of_ble_eq_true rfl⟩ ⟨Nat.le_of_ble_eq_true rfl, Nat.le_of_ble_eq_true rfl⟩ d_Mo_edit_301) [0, 1, 2, 3, 4, 5, 6, 7, 8] [] [0, 1, 2, 3, 4, 5, 6, 7, 8] rfl rfl rfl (by decide) rfl (fun _ => rfl) (fun _ => rfl) (fun u_301 H locs hu_301 hw => ?_)
            refine lv_aload_n X.1 X.2.1 d_Mo_edit_304 rfl (lv_at hl 3 rfl) ?_
            refine z_afterV (w2 := fun u => (w_Mo k cA mA mK u_266 (n2:Int) (u.2.1:Int) u.2.2.1 u.2.2.2.1 u.2.2.2.2.1 u.2.2.2.2.2.1 u.2.2.2.2.2.2.1 u.2.2.2.2.2.2.2.1 (T:Int) r fa (n:Int) u_301.1 u_301.2.1 (em + 1) u.2.2.2.2.2.2.2.2.1 u.2.2.2.2.2.2.2.2.2.1 u.2.2.2.2.2.2.2.2.2.2)) (wr := []) hw (z_runV (rest := []) X hw k_Mo v_Mo_93 [] (c_Mo_scanAll l D cA k _ a kt t2 n2 mA mK u_266 mB mZ mO mL r (T:Int) fa fl (T:Int) fa (n:Int) u_301.1 u_301.2.1 (em + 1) u_301.2.2.1 u_301.2.2.2.1 u_301.2.2.2.2 hRg2 hgA hgK htx2) 0 rfl [0, 1, 2, 3, 4, 5, 6, 7, 8] rfl rfl rfl rfl hl.1 rfl (Nat.le_of_ble_eq_true rfl) ⟨rfl, rfl, Nat.le_of_ble_eq_true rfl, Nat.le_of_ble_eq_true rfl⟩ ⟨Nat.le_of_ble_eq_true rfl, Nat.le_of_ble_eq_true rfl⟩ d_Mo_edit_305) [0, 1, 2, 3, 4, 5, 6, 7, 8] [] [0, 1, 2, 3, 4, 5, 6, 7, 8] rfl rfl rfl (by decide) rfl (fun _ => rfl) (fun _ => rfl) (fun u_305 H locs hu_305 hw => ?_)
            obtain ⟨c3, T3, b3, z3, o3, l3, f3, f4, y1, y2, y3⟩ := u_305
            dsimp only at hu_305 hw
            refine lv_aload_n X.1 X.2.1 d_Mo_edit_308 rfl (lv_at hl 3 rfl) ?_
            refine z_get X hw k_Mo 0 rfl 15 (by decide) rfl m_fl_Mo_50 rfl d_Mo_edit_309 ?_
            exact z_iret X hr hlk rfl (c3, T3, u_266, b3, z3, o3, l3, f3, f4, r, u_301.1, u_301.2.1, y1, y2, y3) ⟨rfl, hu_305, i0, hF, Or.inr ⟨hns, hu_301⟩⟩ hw d_Mo_edit_312
        · refine lv_aload_n X.1 X.2.1 d_Mo_edit_224 rfl (lv_at hl 3 rfl) ?_
          refine z_get X hw k_Mo 0 rfl 12 (by decide) rfl m_fl_Mo_35 rfl d_Mo_edit_225 ?_
          refine lv_iload X.1 X.2.1 d_Mo_edit_228 (lv_at hl 0 rfl) ?_
          refine lv_aload_n X.1 X.2.1 d_Mo_edit_230 rfl (lv_at hl 3 rfl) ?_
          refine z_get X hw k_Mo 0 rfl 5 (by decide) rfl m_fl_Mo_19 rfl d_Mo_edit_231 ?_
          refine lv_iload X.1 X.2.1 d_Mo_edit_234 (lv_at hl 0 rfl) ?_
          refine z_iald X hw 4 rfl i (by omega) (by omega) (by decide) d_Mo_edit_236 ?_
          refine z_iast (ws' := (w_Mo k cA mA mK mT (n:Int) (T:Int) mB mZ mO mL fa fl (T:Int) (uz r i (mB i)) oF oS rm sm em tS tK tL)) X hw 8 rfl i (by omega) (by omega) (by decide) d_Mo_edit_237 rfl (fun H locs hw => ?_)
          refine z_iinc (lv' := [(8, .int (iI ((i + 1 : Nat):Int))), (7, .int (iI x)), (6, .int (iI 1)), (0, .ref (k 0)), (1, .int (iI (pl:Int))), (2, .int (iI (po:Int))), (3, .long v0), (5, .int (iI (k0:Int)))]) (r := ((i + 1 : Nat):Int)) (k := 0) X d_Mo_edit_238 hl rfl (by omega) (by decide) rfl (fun ls hl => ?_)
          refine z_goto (tgt := 215) X d_Mo_edit_241 (by decide) ?_
          exact ih (i + 1) (uz r i (mB i)) (by omega) (by omega) (fun j hj => by
            by_cases e0 : j = i
            · rw [e0, uz_s]
            · rw [uz_n e0]; exact h1 j (by omega)) H locs ls hw (lv_sub hl [0, 1, 2, 3, 4, 5, 6, 7] rfl)
    exact lp (T + 1) 0 mQ (by omega) (by omega) (fun j hj => absurd hj (Nat.not_lt_zero j)) H locs ls hw (lv_sub hl [0, 1, 2, 3, 4, 5, 6, 7] rfl)
  have lpd : ∀ (f : Nat) (q : Nat) (x : Int), q ≤ T → q < f → SV (sc a kt t n) n cn pl q x → ∀ (ls : Array Slot), lv_has ls 9 [(8, .int (iI ((q:Int) - 1))), (7, .int (iI x)), (6, .int (iI 1)), (0, .ref (k 0)), (1, .int (iI (pl:Int))), (2, .int (iI (po:Int))), (3, .long v0), (5, .int (iI (k0:Int)))] → W p l e (rM 2 49) s m ([.ref (k 0), .int (iI (pl:Int)), .int (iI (po:Int)), .long v0, .int (iI (k0:Int))] : List Value).toArray below meth c s.heap [] 0 0 (MQ below (zQi (fun (z : Int) (u : Nat × Nat × (Nat → Int) × (Nat → Int) × (Nat → Int) × (Nat → Int) × (Nat → Int) × Int × Int × (Nat → Int) × Int × Int × Int × Int × Int) => z = u.2.2.2.2.2.2.2.2.2.2.1 ∧ MI a kt t2 n2 u.1 u.2.1 mA mK u.2.2.1 u.2.2.2.1 u.2.2.2.2.1 u.2.2.2.2.2.1 u.2.2.2.2.2.2.1 u.2.2.2.2.2.2.2.1 u.2.2.2.2.2.2.2.2.1 ∧ EdR (sc a kt t n) (sc a kt t2 n2) n2 cn pl stop (u.2.2.2.2.2.2.2.2.2.2.1, u.2.2.2.2.2.2.2.2.2.2.2.1)) (fun u => (w_Mo k cA mA mK u.2.2.1 (n2:Int) (u.2.1:Int) u.2.2.2.1 u.2.2.2.2.1 u.2.2.2.2.2.1 u.2.2.2.2.2.2.1 u.2.2.2.2.2.2.2.1 u.2.2.2.2.2.2.2.2.1 (T:Int) u.2.2.2.2.2.2.2.2.2.1 fa (n:Int) u.2.2.2.2.2.2.2.2.2.2.1 u.2.2.2.2.2.2.2.2.2.2.2.1 (em + 1) u.2.2.2.2.2.2.2.2.2.2.2.2.1 u.2.2.2.2.2.2.2.2.2.2.2.2.2.1 u.2.2.2.2.2.2.2.2.2.2.2.2.2.2)) D (w_Mo k cA mA mK mT (n:Int) (T:Int) mB mZ mO mL fa fl oT mQ oF oS rm sm em tS tK tL) hs) ([.ref (k 0), .int (iI (pl:Int)), .int (iI (po:Int)), .long v0, .int (iI (k0:Int))] : List Value).toArray s 0 0 (va_A (w_Mo k cA mA mK mT (n:Int) (T:Int) mB mZ mO mL fa fl oT mQ oF oS rm sm em tS tK tL) hs)) (F0 m 160 ls []) := by
    intro f
    induction f with
    | zero =>
      intro q x hq hf hx ls hl
      exfalso; omega
    | succ f ih =>
      intro q x hq hf hx ls hl
      refine lv_iload X.1 X.2.1 d_Mo_edit_160 (lv_at hl 0 rfl) ?_
      refine z_if_lt (tgt := 204) X d_Mo_edit_162 (by decide) (by omega) (fun c_162 => ?_) (fun c_162 => ?_)
      · obtain rfl : q = 0 := by omega
        exact K204 x hx ls (lv_sub hl [1, 2, 3, 4, 5, 6, 7] rfl)
      · obtain ⟨q0, rfl⟩ : ∃ q0, q = q0 + 1 := ⟨q - 1, by omega⟩
        have hi := hit q0 (by omega)
        have hbi := hB q0 (by omega)
        have hfi := hFb q0 (by omega)
        have hl : lv_has ls 9 [(8, .int (iI (q0:Int))), (7, .int (iI x)), (6, .int (iI 1)), (0, .ref (k 0)), (1, .int (iI (pl:Int))), (2, .int (iI (po:Int))), (3, .long v0), (5, .int (iI (k0:Int)))] := by rw [show (q0:Int) = ((q0 + 1 : Nat):Int) - 1 by omega]; exact hl
        refine lv_aload_n X.1 X.2.1 d_Mo_edit_165 rfl (lv_at hl 3 rfl) ?_
        refine z_get X hw k_Mo 0 rfl 5 (by decide) rfl m_fl_Mo_19 rfl d_Mo_edit_166 ?_
        refine lv_iload X.1 X.2.1 d_Mo_edit_169 (lv_at hl 0 rfl) ?_
        refine z_iald X hw 4 rfl q0 (by omega) (by omega) (by decide) d_Mo_edit_171 ?_
        refine z_as (z := ((bg (sc a kt t n) q0 : Nat):Int)) hi.1 ?_
        refine lv_aload_n X.1 X.2.1 d_Mo_edit_172 rfl (lv_at hl 3 rfl) ?_
        refine z_get X hw k_Mo 0 rfl 8 (by decide) rfl m_fl_Mo_28 rfl d_Mo_edit_173 ?_
        refine lv_iload X.1 X.2.1 d_Mo_edit_176 (lv_at hl 0 rfl) ?_
        refine z_iald X hw 7 rfl q0 (by omega) (by omega) (by decide) d_Mo_edit_178 ?_
        refine z_as (z := ((((sc a kt t n) (bg (sc a kt t n) q0)).1 : Nat):Int)) hi.2.2.1 ?_
        refine z_iadd (r := (((bg (sc a kt t n) q0 : Nat):Int) + ((((sc a kt t n) (bg (sc a kt t n) q0)).1 : Nat):Int))) X d_Mo_edit_179 rfl ?_
        refine lv_iload_n X.1 X.2.1 d_Mo_edit_180 rfl (lv_at hl 4 rfl) ?_
        refine z_icmp_le (tgt := 194) X d_Mo_edit_181 (by decide) (by omega) (by omega) (fun c_181 => ?_) (fun c_181 => ?_)
        · refine lv_iload X.1 X.2.1 d_Mo_edit_194 (lv_at hl 1 rfl) ?_
          refine z_istore (lv' := [(7, .int (iI x)), (8, .int (iI (q0:Int))), (6, .int (iI 1)), (0, .ref (k 0)), (1, .int (iI (pl:Int))), (2, .int (iI (po:Int))), (3, .long v0), (5, .int (iI (k0:Int)))]) X d_Mo_edit_196 hl (by decide) rfl (fun ls hl => ?_)
          refine z_iinc (lv' := [(8, .int (iI ((q0:Int) - 1))), (7, .int (iI x)), (6, .int (iI 1)), (0, .ref (k 0)), (1, .int (iI (pl:Int))), (2, .int (iI (po:Int))), (3, .long v0), (5, .int (iI (k0:Int)))]) (r := ((q0:Int) - 1)) (k := 1) X d_Mo_edit_198 hl rfl (by omega) (by decide) rfl (fun ls hl => ?_)
          refine z_goto (tgt := 160) X d_Mo_edit_201 (by decide) ?_
          exact ih q0 x (by omega) (by omega) (by
            obtain ⟨i, h1, h2, h3, h4⟩ := hx
            exact ⟨i, by omega, h2, fun j hj hj2 => by
              by_cases e0 : j = q0
              · rw [e0]; omega
              · exact h3 j (by omega) hj2, h4⟩) ls (lv_sub hl [0, 1, 2, 3, 4, 5, 6, 7] rfl)
        · refine lv_aload_n X.1 X.2.1 d_Mo_edit_184 rfl (lv_at hl 3 rfl) ?_
          refine z_get X hw k_Mo 0 rfl 5 (by decide) rfl m_fl_Mo_19 rfl d_Mo_edit_185 ?_
          refine lv_iload X.1 X.2.1 d_Mo_edit_188 (lv_at hl 0 rfl) ?_
          refine z_iald X hw 4 rfl q0 (by omega) (by omega) (by decide) d_Mo_edit_190 ?_
          refine z_as (z := ((bg (sc a kt t n) q0 : Nat):Int)) hi.1 ?_
          refine z_goto (tgt := 196) X d_Mo_edit_191 (by decide) ?_
          refine z_istore (lv' := [(7, .int (iI ((bg (sc a kt t n) q0 : Nat):Int))), (8, .int (iI (q0:Int))), (6, .int (iI 1)), (0, .ref (k 0)), (1, .int (iI (pl:Int))), (2, .int (iI (po:Int))), (3, .long v0), (5, .int (iI (k0:Int)))]) X d_Mo_edit_196 hl (by decide) rfl (fun ls hl => ?_)
          refine z_iinc (lv' := [(8, .int (iI ((q0:Int) - 1))), (7, .int (iI ((bg (sc a kt t n) q0 : Nat):Int))), (6, .int (iI 1)), (0, .ref (k 0)), (1, .int (iI (pl:Int))), (2, .int (iI (po:Int))), (3, .long v0), (5, .int (iI (k0:Int)))]) (r := ((q0:Int) - 1)) (k := 1) X d_Mo_edit_198 hl rfl (by omega) (by decide) rfl (fun ls hl => ?_)
          refine z_goto (tgt := 160) X d_Mo_edit_201 (by decide) ?_
          exact ih q0 ((bg (sc a kt t n) q0 : Nat):Int) (by omega) (by omega) ⟨q0, by omega, by omega, fun j hj hj2 => by omega, fun _ => by omega, Or.inl ⟨by omega, rfl⟩⟩ ls (lv_sub hl [0, 1, 2, 3, 4, 5, 6, 7] rfl)
  have K152 : ∀ (x : Int), SV (sc a kt t n) n cn pl T x → ∀ (ls : Array Slot), lv_has ls 9 [(7, .int (iI x)), (6, .int (iI 1)), (0, .ref (k 0)), (1, .int (iI (pl:Int))), (2, .int (iI (po:Int))), (3, .long v0), (5, .int (iI (k0:Int)))] → W p l e (rM 2 49) s m ([.ref (k 0), .int (iI (pl:Int)), .int (iI (po:Int)), .long v0, .int (iI (k0:Int))] : List Value).toArray below meth c s.heap [] 0 0 (MQ below (zQi (fun (z : Int) (u : Nat × Nat × (Nat → Int) × (Nat → Int) × (Nat → Int) × (Nat → Int) × (Nat → Int) × Int × Int × (Nat → Int) × Int × Int × Int × Int × Int) => z = u.2.2.2.2.2.2.2.2.2.2.1 ∧ MI a kt t2 n2 u.1 u.2.1 mA mK u.2.2.1 u.2.2.2.1 u.2.2.2.2.1 u.2.2.2.2.2.1 u.2.2.2.2.2.2.1 u.2.2.2.2.2.2.2.1 u.2.2.2.2.2.2.2.2.1 ∧ EdR (sc a kt t n) (sc a kt t2 n2) n2 cn pl stop (u.2.2.2.2.2.2.2.2.2.2.1, u.2.2.2.2.2.2.2.2.2.2.2.1)) (fun u => (w_Mo k cA mA mK u.2.2.1 (n2:Int) (u.2.1:Int) u.2.2.2.1 u.2.2.2.2.1 u.2.2.2.2.2.1 u.2.2.2.2.2.2.1 u.2.2.2.2.2.2.2.1 u.2.2.2.2.2.2.2.2.1 (T:Int) u.2.2.2.2.2.2.2.2.2.1 fa (n:Int) u.2.2.2.2.2.2.2.2.2.2.1 u.2.2.2.2.2.2.2.2.2.2.2.1 (em + 1) u.2.2.2.2.2.2.2.2.2.2.2.2.1 u.2.2.2.2.2.2.2.2.2.2.2.2.2.1 u.2.2.2.2.2.2.2.2.2.2.2.2.2.2)) D (w_Mo k cA mA mK mT (n:Int) (T:Int) mB mZ mO mL fa fl oT mQ oF oS rm sm em tS tK tL) hs) ([.ref (k 0), .int (iI (pl:Int)), .int (iI (po:Int)), .long v0, .int (iI (k0:Int))] : List Value).toArray s 0 0 (va_A (w_Mo k cA mA mK mT (n:Int) (T:Int) mB mZ mO mL fa fl oT mQ oF oS rm sm em tS tK tL) hs)) (F0 m 152 ls []) := by
    intro x hx ls hl
    refine lv_aload_n X.1 X.2.1 d_Mo_edit_152 rfl (lv_at hl 2 rfl) ?_
    refine z_get X hw k_Mo 0 rfl 4 (by decide) rfl m_fl_Mo_44 rfl d_Mo_edit_153 ?_
    refine z_iconst X d_Mo_edit_156 ?_
    refine z_isub (r := ((T:Int) - 1)) X d_Mo_edit_157 rfl ?_
    refine z_istore (lv' := [(8, .int (iI ((T:Int) - 1))), (7, .int (iI x)), (6, .int (iI 1)), (0, .ref (k 0)), (1, .int (iI (pl:Int))), (2, .int (iI (po:Int))), (3, .long v0), (5, .int (iI (k0:Int)))]) X d_Mo_edit_158 hl (by decide) rfl (fun ls hl => ?_)
    exact lpd (T + 1) T x (by omega) (by omega) hx ls (lv_sub hl [0, 1, 2, 3, 4, 5, 6, 7] rfl)
  have K112 : ∀ (y : Int) (ls : Array Slot), lv_has ls 9 [(7, .int (iI y)), (6, .int (iI 1)), (0, .ref (k 0)), (1, .int (iI (pl:Int))), (2, .int (iI (po:Int))), (3, .long v0), (5, .int (iI (k0:Int)))] → W p l e (rM 2 49) s m ([.ref (k 0), .int (iI (pl:Int)), .int (iI (po:Int)), .long v0, .int (iI (k0:Int))] : List Value).toArray below meth c s.heap [] 0 0 (MQ below (zQi (fun (z : Int) (u : Nat × Nat × (Nat → Int) × (Nat → Int) × (Nat → Int) × (Nat → Int) × (Nat → Int) × Int × Int × (Nat → Int) × Int × Int × Int × Int × Int) => z = u.2.2.2.2.2.2.2.2.2.2.1 ∧ MI a kt t2 n2 u.1 u.2.1 mA mK u.2.2.1 u.2.2.2.1 u.2.2.2.2.1 u.2.2.2.2.2.1 u.2.2.2.2.2.2.1 u.2.2.2.2.2.2.2.1 u.2.2.2.2.2.2.2.2.1 ∧ EdR (sc a kt t n) (sc a kt t2 n2) n2 cn pl stop (u.2.2.2.2.2.2.2.2.2.2.1, u.2.2.2.2.2.2.2.2.2.2.2.1)) (fun u => (w_Mo k cA mA mK u.2.2.1 (n2:Int) (u.2.1:Int) u.2.2.2.1 u.2.2.2.2.1 u.2.2.2.2.2.1 u.2.2.2.2.2.2.1 u.2.2.2.2.2.2.2.1 u.2.2.2.2.2.2.2.2.1 (T:Int) u.2.2.2.2.2.2.2.2.2.1 fa (n:Int) u.2.2.2.2.2.2.2.2.2.2.1 u.2.2.2.2.2.2.2.2.2.2.2.1 (em + 1) u.2.2.2.2.2.2.2.2.2.2.2.2.1 u.2.2.2.2.2.2.2.2.2.2.2.2.2.1 u.2.2.2.2.2.2.2.2.2.2.2.2.2.2)) D (w_Mo k cA mA mK mT (n:Int) (T:Int) mB mZ mO mL fa fl oT mQ oF oS rm sm em tS tK tL) hs) ([.ref (k 0), .int (iI (pl:Int)), .int (iI (po:Int)), .long v0, .int (iI (k0:Int))] : List Value).toArray s 0 0 (va_A (w_Mo k cA mA mK mT (n:Int) (T:Int) mB mZ mO mL fa fl oT mQ oF oS rm sm em tS tK tL) hs)) (F0 m 112 ls []) := by
    intro y ls hl
    refine lv_aload_n X.1 X.2.1 d_Mo_edit_112 rfl (lv_at hl 2 rfl) ?_
    refine z_get X hw k_Mo 0 rfl 3 (by decide) rfl m_fl_Mo_41 rfl d_Mo_edit_113 ?_
    refine z_if_ne (tgt := 123) X d_Mo_edit_116 (by decide) (by omega) (fun c_116 => ?_) (fun c_116 => ?_)
    · refine z_iconst X d_Mo_edit_123 ?_
      refine z_istore (lv' := [(7, .int (iI (-1))), (6, .int (iI 1)), (0, .ref (k 0)), (1, .int (iI (pl:Int))), (2, .int (iI (po:Int))), (3, .long v0), (5, .int (iI (k0:Int)))]) X d_Mo_edit_124 hl (by decide) rfl (fun ls hl => ?_)
      refine lv_aload_n X.1 X.2.1 d_Mo_edit_126 rfl (lv_at hl 2 rfl) ?_
      refine z_get X hw k_Mo 0 rfl 9 (by decide) rfl m_fl_Mo_31 rfl d_Mo_edit_127 ?_
      refine z_if_lt (tgt := 152) X d_Mo_edit_130 (by decide) (by omega) (fun c_130 => ?_) (fun c_130 => ?_)
      · exact K152 (-1) (by
          rcases hfl with ⟨q0, q1, q2⟩ | ⟨q0, q1, q2⟩
          · exact ⟨cn, by omega, by omega, fun j hj hj2 => by omega, fun w => by omega, by omega⟩
          · exact ⟨cn, by omega, by omega, fun j hj hj2 => by
              rw [show j = T by omega]
              omega, fun w => by omega, by omega⟩) ls (lv_sub hl [0, 1, 2, 3, 4, 5, 6] rfl)
      · refine lv_aload_n X.1 X.2.1 d_Mo_edit_133 rfl (lv_at hl 2 rfl) ?_
        refine z_get X hw k_Mo 0 rfl 9 (by decide) rfl m_fl_Mo_31 rfl d_Mo_edit_134 ?_
        refine lv_aload_n X.1 X.2.1 d_Mo_edit_137 rfl (lv_at hl 2 rfl) ?_
        refine z_get X hw k_Mo 0 rfl 10 (by decide) rfl m_fl_Mo_47 rfl d_Mo_edit_138 ?_
        refine z_iadd (r := (fa + fl)) X d_Mo_edit_141 rfl ?_
        refine lv_iload_n X.1 X.2.1 d_Mo_edit_142 rfl (lv_at hl 3 rfl) ?_
        refine z_icmp_le (tgt := 152) X d_Mo_edit_143 (by decide) (by omega) (by omega) (fun c_143 => ?_) (fun c_143 => ?_)
        · exact K152 (-1) (by
            rcases hfl with ⟨q0, q1, q2⟩ | ⟨q0, q1, q2⟩
            · exact ⟨cn, by omega, by omega, fun j hj hj2 => by omega, fun w => by omega, by omega⟩
            · exact ⟨cn, by omega, by omega, fun j hj hj2 => by
                rw [show j = T by omega]
                omega, fun w => by omega, by omega⟩) ls (lv_sub hl [0, 1, 2, 3, 4, 5, 6] rfl)
        · refine lv_aload_n X.1 X.2.1 d_Mo_edit_146 rfl (lv_at hl 2 rfl) ?_
          refine z_get X hw k_Mo 0 rfl 9 (by decide) rfl m_fl_Mo_31 rfl d_Mo_edit_147 ?_
          refine z_istore (lv' := [(7, .int (iI fa)), (6, .int (iI 1)), (0, .ref (k 0)), (1, .int (iI (pl:Int))), (2, .int (iI (po:Int))), (3, .long v0), (5, .int (iI (k0:Int)))]) X d_Mo_edit_150 hl (by decide) rfl (fun ls hl => ?_)
          exact K152 fa (by
            rcases hfl with ⟨q0, q1, q2⟩ | ⟨q0, q1, q2⟩
            · omega
            · exact ⟨T, by omega, by omega, fun j hj hj2 => by omega, fun _ => by omega, Or.inl ⟨by omega, q1⟩⟩) ls (lv_sub hl [0, 1, 2, 3, 4, 5, 6] rfl)
    · refine z_iconst X d_Mo_edit_119 ?_
      refine z_goto (tgt := 124) X d_Mo_edit_120 (by decide) ?_
      refine z_istore (lv' := [(7, .int (iI 0)), (6, .int (iI 1)), (0, .ref (k 0)), (1, .int (iI (pl:Int))), (2, .int (iI (po:Int))), (3, .long v0), (5, .int (iI (k0:Int)))]) X d_Mo_edit_124 hl (by decide) rfl (fun ls hl => ?_)
      refine lv_aload_n X.1 X.2.1 d_Mo_edit_126 rfl (lv_at hl 2 rfl) ?_
      refine z_get X hw k_Mo 0 rfl 9 (by decide) rfl m_fl_Mo_31 rfl d_Mo_edit_127 ?_
      refine z_if_lt (tgt := 152) X d_Mo_edit_130 (by decide) (by omega) (fun c_130 => ?_) (fun c_130 => ?_)
      · exact K152 0 (by
          rcases hfl with ⟨q0, q1, q2⟩ | ⟨q0, q1, q2⟩
          · exact ⟨cn, by omega, by omega, fun j hj hj2 => by omega, fun w => by omega, by omega⟩
          · exact ⟨cn, by omega, by omega, fun j hj hj2 => by
              rw [show j = T by omega]
              omega, fun w => by omega, by omega⟩) ls (lv_sub hl [0, 1, 2, 3, 4, 5, 6] rfl)
      · refine lv_aload_n X.1 X.2.1 d_Mo_edit_133 rfl (lv_at hl 2 rfl) ?_
        refine z_get X hw k_Mo 0 rfl 9 (by decide) rfl m_fl_Mo_31 rfl d_Mo_edit_134 ?_
        refine lv_aload_n X.1 X.2.1 d_Mo_edit_137 rfl (lv_at hl 2 rfl) ?_
        refine z_get X hw k_Mo 0 rfl 10 (by decide) rfl m_fl_Mo_47 rfl d_Mo_edit_138 ?_
        refine z_iadd (r := (fa + fl)) X d_Mo_edit_141 rfl ?_
        refine lv_iload_n X.1 X.2.1 d_Mo_edit_142 rfl (lv_at hl 3 rfl) ?_
        refine z_icmp_le (tgt := 152) X d_Mo_edit_143 (by decide) (by omega) (by omega) (fun c_143 => ?_) (fun c_143 => ?_)
        · exact K152 0 (by
            rcases hfl with ⟨q0, q1, q2⟩ | ⟨q0, q1, q2⟩
            · exact ⟨cn, by omega, by omega, fun j hj hj2 => by omega, fun w => by omega, by omega⟩
            · exact ⟨cn, by omega, by omega, fun j hj hj2 => by
                rw [show j = T by omega]
                omega, fun w => by omega, by omega⟩) ls (lv_sub hl [0, 1, 2, 3, 4, 5, 6] rfl)
        · refine lv_aload_n X.1 X.2.1 d_Mo_edit_146 rfl (lv_at hl 2 rfl) ?_
          refine z_get X hw k_Mo 0 rfl 9 (by decide) rfl m_fl_Mo_31 rfl d_Mo_edit_147 ?_
          refine z_istore (lv' := [(7, .int (iI fa)), (6, .int (iI 1)), (0, .ref (k 0)), (1, .int (iI (pl:Int))), (2, .int (iI (po:Int))), (3, .long v0), (5, .int (iI (k0:Int)))]) X d_Mo_edit_150 hl (by decide) rfl (fun ls hl => ?_)
          exact K152 fa (by
            rcases hfl with ⟨q0, q1, q2⟩ | ⟨q0, q1, q2⟩
            · omega
            · exact ⟨T, by omega, by omega, fun j hj hj2 => by omega, fun _ => by omega, Or.inl ⟨by omega, q1⟩⟩) ls (lv_sub hl [0, 1, 2, 3, 4, 5, 6] rfl)
  have lp : ∀ (f : Nat) (i : Nat) (b : Int), i ≤ k0 → k0 < f + i → (b = 1 ∧ (∀ j, j < i → nb v0 (4 * (j : Int)) < 10) ∨ b = 0 ∧ ∃ j, j < i ∧ ¬ nb v0 (4 * (j : Int)) < 10) → ∀ (ls : Array Slot), lv_has ls 9 [(7, .int (iI (i:Int))), (6, .int (iI b)), (0, .ref (k 0)), (1, .int (iI (pl:Int))), (2, .int (iI (po:Int))), (3, .long v0), (5, .int (iI (k0:Int)))] → W p l e (rM 2 49) s m ([.ref (k 0), .int (iI (pl:Int)), .int (iI (po:Int)), .long v0, .int (iI (k0:Int))] : List Value).toArray below meth c s.heap [] 0 0 (MQ below (zQi (fun (z : Int) (u : Nat × Nat × (Nat → Int) × (Nat → Int) × (Nat → Int) × (Nat → Int) × (Nat → Int) × Int × Int × (Nat → Int) × Int × Int × Int × Int × Int) => z = u.2.2.2.2.2.2.2.2.2.2.1 ∧ MI a kt t2 n2 u.1 u.2.1 mA mK u.2.2.1 u.2.2.2.1 u.2.2.2.2.1 u.2.2.2.2.2.1 u.2.2.2.2.2.2.1 u.2.2.2.2.2.2.2.1 u.2.2.2.2.2.2.2.2.1 ∧ EdR (sc a kt t n) (sc a kt t2 n2) n2 cn pl stop (u.2.2.2.2.2.2.2.2.2.2.1, u.2.2.2.2.2.2.2.2.2.2.2.1)) (fun u => (w_Mo k cA mA mK u.2.2.1 (n2:Int) (u.2.1:Int) u.2.2.2.1 u.2.2.2.2.1 u.2.2.2.2.2.1 u.2.2.2.2.2.2.1 u.2.2.2.2.2.2.2.1 u.2.2.2.2.2.2.2.2.1 (T:Int) u.2.2.2.2.2.2.2.2.2.1 fa (n:Int) u.2.2.2.2.2.2.2.2.2.2.1 u.2.2.2.2.2.2.2.2.2.2.2.1 (em + 1) u.2.2.2.2.2.2.2.2.2.2.2.2.1 u.2.2.2.2.2.2.2.2.2.2.2.2.2.1 u.2.2.2.2.2.2.2.2.2.2.2.2.2.2)) D (w_Mo k cA mA mK mT (n:Int) (T:Int) mB mZ mO mL fa fl oT mQ oF oS rm sm em tS tK tL) hs) ([.ref (k 0), .int (iI (pl:Int)), .int (iI (po:Int)), .long v0, .int (iI (k0:Int))] : List Value).toArray s 0 0 (va_A (w_Mo k cA mA mK mT (n:Int) (T:Int) mB mZ mO mL fa fl oT mQ oF oS rm sm em tS tK tL) hs)) (F0 m 63 ls []) := by
    intro f
    induction f with
    | zero =>
      intro i b hi hf hb ls hl
      exfalso; omega
    | succ f ih =>
      intro i b hi hf hb ls hl
      refine lv_iload X.1 X.2.1 d_Mo_edit_63 (lv_at hl 0 rfl) ?_
      refine lv_iload X.1 X.2.1 d_Mo_edit_65 (lv_at hl 6 rfl) ?_
      refine z_icmp_ge (tgt := 105) X d_Mo_edit_67 (by decide) (by omega) (by omega) (fun c_67 => ?_) (fun c_67 => ?_)
      · rcases hb with ⟨rfl, hb⟩ | ⟨_, j, hb1, hb2⟩
        · refine lv_iload X.1 X.2.1 d_Mo_edit_105 (lv_at hl 1 rfl) ?_
          refine z_if_ne (tgt := 112) X d_Mo_edit_107 (by decide) (by omega) (fun c_107 => ?_) (fun c_107 => ?_)
          · exact K112 (i:Int) ls (lv_sub hl [0, 1, 2, 3, 4, 5, 6] rfl)
          · exfalso; omega
        · exact absurd (haS j (by omega)) hb2
      · refine lv_iload X.1 X.2.1 d_Mo_edit_70 (lv_at hl 1 rfl) ?_
        refine z_if_eq (tgt := 105) X d_Mo_edit_72 (by decide) (by rcases hb with ⟨q, _⟩ | ⟨q, _⟩ <;> omega) (fun c_72 => ?_) (fun c_72 => ?_)
        · rcases hb with ⟨rfl, hb⟩ | ⟨_, j, hb1, hb2⟩
          · refine lv_iload X.1 X.2.1 d_Mo_edit_105 (lv_at hl 1 rfl) ?_
            refine z_if_ne (tgt := 112) X d_Mo_edit_107 (by decide) (by omega) (fun c_107 => ?_) (fun c_107 => ?_)
            · exact K112 (i:Int) ls (lv_sub hl [0, 1, 2, 3, 4, 5, 6] rfl)
            · exfalso; omega
          · exact absurd (haS j (by omega)) hb2
        · refine lv_lload_n X.1 X.2.1 d_Mo_edit_75 rfl (lv_at hl 5 rfl) ?_
          refine z_iconst X d_Mo_edit_76 ?_
          refine lv_iload X.1 X.2.1 d_Mo_edit_77 (lv_at hl 0 rfl) ?_
          refine z_imul (r := (4 * (i:Int))) X d_Mo_edit_79 rfl ?_
          refine lv_lshr X.1 X.2.1 d_Mo_edit_80 rfl ?_
          refine lv_ldc2 X.1 X.2.1 X.2.2.2.1 (X.2.2.2.2.1 _ m_lc_Mo_81) d_Mo_edit_81 ?_
          refine lv_land X.1 X.2.1 d_Mo_edit_84 ?_
          refine lv_ldc2 X.1 X.2.1 X.2.2.2.1 (X.2.2.2.2.1 _ m_lc_Mo_83) d_Mo_edit_85 ?_
          refine z_nibge (tgt := 96) X d_Mo_edit_88 d_Mo_edit_89 (by decide) (fun c_88 => ?_) (fun c_88 => ?_)
          · refine z_iconst X d_Mo_edit_96 ?_
            refine z_istore (lv' := [(6, .int (iI 0)), (7, .int (iI (i:Int))), (0, .ref (k 0)), (1, .int (iI (pl:Int))), (2, .int (iI (po:Int))), (3, .long v0), (5, .int (iI (k0:Int)))]) X d_Mo_edit_97 hl (by decide) rfl (fun ls hl => ?_)
            refine z_iinc (lv' := [(7, .int (iI ((i + 1 : Nat):Int))), (6, .int (iI 0)), (0, .ref (k 0)), (1, .int (iI (pl:Int))), (2, .int (iI (po:Int))), (3, .long v0), (5, .int (iI (k0:Int)))]) (r := ((i + 1 : Nat):Int)) (k := 1) X d_Mo_edit_99 hl rfl (by omega) (by decide) rfl (fun ls hl => ?_)
            refine z_goto (tgt := 63) X d_Mo_edit_102 (by decide) ?_
            exact ih (i + 1) 0 (by omega) (by omega) (Or.inr ⟨rfl, i, by omega, by omega⟩) ls (lv_sub hl [0, 1, 2, 3, 4, 5, 6] rfl)
          · refine z_iconst X d_Mo_edit_92 ?_
            refine z_goto (tgt := 97) X d_Mo_edit_93 (by decide) ?_
            refine z_istore (lv' := [(6, .int (iI 1)), (7, .int (iI (i:Int))), (0, .ref (k 0)), (1, .int (iI (pl:Int))), (2, .int (iI (po:Int))), (3, .long v0), (5, .int (iI (k0:Int)))]) X d_Mo_edit_97 hl (by decide) rfl (fun ls hl => ?_)
            refine z_iinc (lv' := [(7, .int (iI ((i + 1 : Nat):Int))), (6, .int (iI 1)), (0, .ref (k 0)), (1, .int (iI (pl:Int))), (2, .int (iI (po:Int))), (3, .long v0), (5, .int (iI (k0:Int)))]) (r := ((i + 1 : Nat):Int)) (k := 1) X d_Mo_edit_99 hl rfl (by omega) (by decide) rfl (fun ls hl => ?_)
            refine z_goto (tgt := 63) X d_Mo_edit_102 (by decide) ?_
            exact ih (i + 1) 1 (by omega) (by omega) (Or.inl ⟨rfl, fun j hj => by
              by_cases q : j = i
              · subst q; omega
              · rcases hb with ⟨_, hb⟩ | ⟨hb, _⟩
                · exact hb j (by omega)
                · omega⟩) ls (lv_sub hl [0, 1, 2, 3, 4, 5, 6] rfl)
  refine lv_iload X.1 X.2.1 d_Mo_edit_0 (lv_at hl 4 rfl) ?_
  refine z_if_lt (tgt := 57) X d_Mo_edit_2 (by decide) (by omega) (fun c_2 => ?_) (fun c_2 => ?_)
  · exfalso; omega
  · refine lv_iload X.1 X.2.1 d_Mo_edit_5 (lv_at hl 4 rfl) ?_
    refine z_bipush X d_Mo_edit_7 (by decide) ?_
    refine z_icmp_gt (tgt := 57) X d_Mo_edit_9 (by decide) (by omega) (by omega) (fun c_9 => ?_) (fun c_9 => ?_)
    · exfalso; omega
    · refine lv_iload_n X.1 X.2.1 d_Mo_edit_12 rfl (lv_at hl 1 rfl) ?_
      refine z_if_lt (tgt := 57) X d_Mo_edit_13 (by decide) (by omega) (fun c_13 => ?_) (fun c_13 => ?_)
      · exfalso; omega
      · refine lv_iload_n X.1 X.2.1 d_Mo_edit_16 rfl (lv_at hl 2 rfl) ?_
        refine z_if_lt (tgt := 57) X d_Mo_edit_17 (by decide) (by omega) (fun c_17 => ?_) (fun c_17 => ?_)
        · exfalso; omega
        · refine lv_iload_n X.1 X.2.1 d_Mo_edit_20 rfl (lv_at hl 1 rfl) ?_
          refine lv_aload_n X.1 X.2.1 d_Mo_edit_21 rfl (lv_at hl 0 rfl) ?_
          refine z_get X hw k_Mo 0 rfl 3 (by decide) rfl m_fl_Mo_41 rfl d_Mo_edit_22 ?_
          refine z_icmp_gt (tgt := 57) X d_Mo_edit_25 (by decide) (by omega) (by omega) (fun c_25 => ?_) (fun c_25 => ?_)
          · exfalso; omega
          · refine lv_iload_n X.1 X.2.1 d_Mo_edit_28 rfl (lv_at hl 2 rfl) ?_
            refine lv_aload_n X.1 X.2.1 d_Mo_edit_29 rfl (lv_at hl 0 rfl) ?_
            refine z_get X hw k_Mo 0 rfl 3 (by decide) rfl m_fl_Mo_41 rfl d_Mo_edit_30 ?_
            refine lv_iload_n X.1 X.2.1 d_Mo_edit_33 rfl (lv_at hl 1 rfl) ?_
            refine z_isub (r := ((n:Int) - (pl:Int))) X d_Mo_edit_34 rfl ?_
            refine z_icmp_gt (tgt := 57) X d_Mo_edit_35 (by decide) (by omega) (by omega) (fun c_35 => ?_) (fun c_35 => ?_)
            · exfalso; omega
            · refine lv_aload_n X.1 X.2.1 d_Mo_edit_38 rfl (lv_at hl 0 rfl) ?_
              refine z_get X hw k_Mo 0 rfl 3 (by decide) rfl m_fl_Mo_41 rfl d_Mo_edit_39 ?_
              refine lv_iload_n X.1 X.2.1 d_Mo_edit_42 rfl (lv_at hl 2 rfl) ?_
              refine z_isub (r := ((n:Int) - (po:Int))) X d_Mo_edit_43 rfl ?_
              refine lv_iload X.1 X.2.1 d_Mo_edit_44 (lv_at hl 4 rfl) ?_
              refine z_iadd (r := (((n:Int) - (po:Int)) + (k0:Int))) X d_Mo_edit_46 rfl ?_
              refine z_sipush X d_Mo_edit_47 (by decide) ?_
              refine z_icmp_gt (tgt := 57) X d_Mo_edit_50 (by decide) (by omega) (by omega) (fun c_50 => ?_) (fun c_50 => ?_)
              · exfalso; omega
              · refine z_iconst X d_Mo_edit_53 ?_
                refine z_goto (tgt := 58) X d_Mo_edit_54 (by decide) ?_
                refine z_istore (lv' := [(6, .int (iI 1)), (0, .ref (k 0)), (1, .int (iI (pl:Int))), (2, .int (iI (po:Int))), (3, .long v0), (5, .int (iI (k0:Int)))]) X d_Mo_edit_58 hl (by decide) rfl (fun ls hl => ?_)
                refine z_iconst X d_Mo_edit_60 ?_
                refine z_istore (lv' := [(7, .int (iI 0)), (6, .int (iI 1)), (0, .ref (k 0)), (1, .int (iI (pl:Int))), (2, .int (iI (po:Int))), (3, .long v0), (5, .int (iI (k0:Int)))]) X d_Mo_edit_61 hl (by decide) rfl (fun ls hl => ?_)
                exact lp (k0 + 1) 0 1 (by omega) (by omega) (Or.inl ⟨rfl, fun j hj => absurd hj (Nat.not_lt_zero j)⟩) ls (lv_sub hl [0, 1, 2, 3, 4, 5, 6] rfl)
end
section
def lw_P (b : Addr) (xs : List Int32) (args : Array Value) (s : State) : Prop := args = #[.ref b] ∧ s.IntsAt b xs ∧ xs.length ≤ 3072 ∧ (Jvm.Cond.and given_1 narrow_1).before args s = true
def lw_Q (_ : Array Value) (s : State) (o : Outcome) (t : State) : Prop := o = .returned (some (.int 1)) ∧ Framed s o t [] 20 4885
def lw_Z (below : List Frame) (a : Array Value) (s : State) : State → Prop := fun t => ∃ o, t.status = .running ∧ Ended t below o ∧ lw_Q a s o t
/-- the law's own end, with 1 on the stack, nothing written that was there before, its room as the claim has it -/
theorem lw_ret {p : Program} {l : Launch} {e : Env} {s : State} {m : MethodId} {below : List Frame} {meth : Method} {c : Code} {b : Nat} (hx : p.tables.exec = Jvm.exec) (hb : c.code = code) (hr : meth.sig.returnType = ret) (hlocks : meth.locks = false) {pc : Nat} {H : Heap} {ls : Array Slot} (hdg : decode code pc = .ok (.ireturn, 1)) : W p l e room_1 s m #[Value.ref b] below meth c H [] 20 4885 (lw_Z below #[Value.ref b] s) (F0 m pc ls [.int 1]) := by
  intro T hT X
  obtain ⟨fs, hret, hrun, hended, hW, hframe⟩ := X.leave (v := some (.int 1)) (hlocks := hlocks) (fun h => by rw [hr] at h; cases h)
  have hmeth' : T.vm.method? m = some meth := X.method'
  refine ⟨T.setFrames fs, ?_, .returned (some (.int 1)), hrun, hended, rfl, ⟨_, rfl⟩, hW, hframe⟩
  jvm_step X.here [X.here.top, hx, hb, hdg, hmeth', hr, ret, narrow_b1]
  (try refine ⟨rfl, ?_⟩); (try refine ⟨rfl, ?_⟩)
  first | (intro acts; rw [hret _ acts rfl rfl rfl]) | rw [hret _ _ rfl rfl rfl]
  exact Steps.refl _
/-- what holds at the law's entry: the machine, the code, the tables' words (any of lw_tbl by 'hts w (by decide +kernel)'), the script of L ints xs at the cell b, what the Statement gives of the start (any of its parts by flat_of_before) -/
def lw_At (p : Program) (s : State) (m : MethodId) (meth : Method) (c : Code) (b L : Nat) (xs : Nat → Int32) : Prop :=
  p.tables.exec = Jvm.exec ∧ c.code = code ∧ meth.sig.returnType = ret ∧ c.maxLocals = 4 ∧ s.vm.findClass R_law = some m.cls ∧ (∀ w ∈ lw_tbl, w.before #[Value.ref b] s = true) ∧ va_X b L xs s s.heap ∧ b < s.heap.size ∧ meth.locks = false ∧ (Jvm.Cond.and given_1 narrow_1).before #[Value.ref b] s = true
end
section
section ZL
variable {p : Program} {l : Launch} {e : Env} {R : Room} {s : State} {m : MethodId} {args : Array Value} {below : List Frame} {meth : Method} {c : Code} {H H0 : Heap} {locs : List Loc} {cells slots : Nat} {Q : State → Prop}
variable {cc : ByteArray} {nL : Nat} {own : String} {pc : Nat} {ls : Array Slot} {rest : List Value} {D : va_G} {cA : Nat → ClassId} {A : Nat → Prop} {z a : Int}
theorem z_asl {x z : Int64} (h : x = z) (k : W p l e R s m args below meth c H locs cells slots Q (F0 m pc ls (.long z :: rest))) : W p l e R s m args below meth c H locs cells slots Q (F0 m pc ls (.long x :: rest)) := h ▸ k
theorem z_sld (X : Cx p s m args c cc nL own D cA) {b L : Nat} {xs : Nat → Int32} (hX : va_X b L xs s H0) (hbl : b < H0.size) (hbA : ¬ A b) (hS : va_S A H0 H locs) (k : Nat) (hz : z = k) (hk : k < L) (hL : L < 2147483648) (hv : xs k = iI a) (d : decode cc pc = .ok (.iaload, 1)) (kk : W p l e R s m args below meth c H locs cells slots Q (F0 m (pc + 1) ls (.int (iI a) :: rest))) : W p l e R s m args below meth c H locs cells slots Q (F0 m pc ls (.int (iI z) :: .ref b :: rest)) := by
  subst hz
  refine va_sld X.1 X.2.1 hX hbl hbA hS (iI_in hk hL) d ?_
  rw [iI_cl (by omega), hv]
  exact kk
theorem z_slen (X : Cx p s m args c cc nL own D cA) {b L : Nat} {xs : Nat → Int32} (hX : va_X b L xs s H0) (hbl : b < H0.size) (hbA : ¬ A b) (hS : va_S A H0 H locs) (d : decode cc pc = .ok (.arraylength, 1)) (kk : W p l e R s m args below meth c H locs cells slots Q (F0 m (pc + 1) ls (.int (iI L) :: rest))) : W p l e R s m args below meth c H locs cells slots Q (F0 m pc ls (.ref b :: rest)) := va_slen X.1 X.2.1 hX hbl hbA hS d kk
theorem z_and7 (X : Cx p s m args c cc nL own D cA) (d : decode cc pc = .ok (.iand, 1)) (k : ∀ j : Nat, j < 8 → W p l e R s m args below meth c H locs cells slots Q (F0 m (pc + 1) ls (.int (iI (j : Int)) :: rest))) : W p l e R s m args below meth c H locs cells slots Q (F0 m pc ls (.int (iI 7) :: .int (iI a) :: rest)) := by
  refine lv_iand X.1 X.2.1 d ?_
  obtain ⟨j, hj, e⟩ := pk_andE (iI a) (m := iI 7) 3 (by decide)
  rw [e, show nI j = iI (j : Int) from (by decide : ∀ j, j < 8 → nI j = iI (j : Int)) j hj]
  exact k j hj
end ZL
theorem arr_known {args : Array Value} {s : State} {ty : FieldType} (hob : ∀ C, ty ≠ .object C) (h : (Cond.arrayClass ty).before args s = true) : ∃ k : ClassId, ArrOfT s k ty ∧ va_RA s k ty := by
  obtain ⟨k, kA, comp, h1, h2, h3⟩ := Cond.arrayClass_spec h
  refine ⟨k, fun n z => ⟨fun k h => (by cases h), kA, h2, comp, h3⟩, ?_⟩
  cases ty with
  | object C => exact absurd rfl (hob C)
  | _ => exact h1
theorem St_ex (F : Nat → Nat × Nat × Int) (c p o m : Nat) : ∃ stop, St F c p o m stop := ⟨fun x => @decide (p + m ≤ x ∧ ∃ i, i < c ∧ bg F i + m = x + o) (Classical.propDecidable _), fun x => @decide_eq_true_iff _ (Classical.propDecidable _)⟩
theorem Rg_0 : Rg (fun _ => -1) (fun _ => -1) (fun _ => 0) 0 := ⟨fun _ _ => (by decide : (-1:Int) ≤ -1 ∧ (-1:Int) < 20), fun _ _ => (by decide : (-1:Int) ≤ -1 ∧ (-1:Int) < 100), fun i h => absurd h (Nat.not_lt_zero i), by omega⟩
theorem CI_0 {gA gK row P S L K : Nat → Int} (h1 : ∀ j, j < 200 → gA j = -1) (h2 : ∀ j, j < 20 → gK j = -1) : CI (fun _ => -1) (fun _ => -1) (fun _ => 0) 0 0 gA gK row P S L K 0 400 0 401 := ⟨Rg_0, h1, h2, by omega, by omega, fun i h => absurd h (Nat.not_lt_zero i), by omega, by omega, IsC_0, fun i h => absurd h (Nat.not_lt_zero i)⟩
theorem MI_0 {mA mK mT mB mZ mO mL : Nat → Int} (h1 : ∀ j, j < 200 → mA j = -1) (h2 : ∀ j, j < 20 → mK j = -1) : MI (fun _ => -1) (fun _ => -1) (fun _ => 0) 0 0 0 mA mK mT mB mZ mO mL (-1) 0 := ⟨Rg_0, h1, h2, fun i h => absurd h (Nat.not_lt_zero i), IsC_0, Or.inr ⟨fun h => absurd h.1 (Nat.not_lt_zero 0), rfl⟩, fun i h => absurd h (Nat.not_lt_zero i), Or.inl ⟨rfl, rfl, rfl⟩⟩
theorem uz_R {a : Nat → Int} {N i : Nat} {z lo hi : Int} (h : ∀ j, j < N → lo ≤ a j ∧ a j < hi) (hz : lo ≤ z ∧ z < hi) : ∀ j, j < N → lo ≤ uz a i z j ∧ uz a i z j < hi := fun j hj => by
  by_cases q : j = i
  · subst q; rw [uz_s]; exact hz
  · rw [uz_n q]; exact h j hj
theorem uz_E {f a : Nat → Int} {N i : Nat} {z : Int} (h : ∀ j, j < N → f j = a j) : ∀ j, j < N → uz f i z j = uz a i z j := fun j hj => by
  by_cases q : j = i
  · subst q; rw [uz_s, uz_s]
  · rw [uz_n q, uz_n q]; exact h j hj
theorem CI_arrow {a kt t gA gK row P S L K : Nat → Int} {n cn yl d cl g i : Nat} {z : Int} (h : CI a kt t n cn gA gK row P S L K yl d cl g) (h0 : n = 0) (hz : -1 ≤ z ∧ z < 20) : CI (uz a i z) kt t n cn (uz gA i z) gK row P S L K yl d cl g := by
  obtain ⟨h1, h2, h3, h4, h5, h6, h7, h8, h9, h10⟩ := h
  have hc := (IsC_z h9).mpr h0
  subst hc
  subst h0
  exact ⟨⟨uz_R h1.1 hz, h1.2.1, h1.2.2⟩, uz_E h2, h3, h4, h5, h6, h7, h8, IsC_0, fun i h => absurd h (Nat.not_lt_zero i)⟩
theorem CI_kind {a kt t gA gK row P S L K : Nat → Int} {n cn yl d cl g i : Nat} {z : Int} (h : CI a kt t n cn gA gK row P S L K yl d cl g) (h0 : n = 0) (hz : -1 ≤ z ∧ z < 100) : CI a (uz kt i z) t n cn gA (uz gK i z) row P S L K yl d cl g := by
  obtain ⟨h1, h2, h3, h4, h5, h6, h7, h8, h9, h10⟩ := h
  have hc := (IsC_z h9).mpr h0
  subst hc
  subst h0
  exact ⟨⟨h1.1, uz_R h1.2.1 hz, h1.2.2⟩, h2, uz_E h3, h4, h5, h6, h7, h8, IsC_0, fun i h => absurd h (Nat.not_lt_zero i)⟩
theorem MI_arrow {a kt t mA mK mT mB mZ mO mL : Nat → Int} {n cn T i : Nat} {fa fl z : Int} (h : MI a kt t n cn T mA mK mT mB mZ mO mL fa fl) (h0 : n = 0) (hz : -1 ≤ z ∧ z < 20) : MI (uz a i z) kt t n cn T (uz mA i z) mK mT mB mZ mO mL fa fl := by
  obtain ⟨h1, h2, h3, h4, h5, h6, h7, h8⟩ := h
  have hc := (IsC_z h5).mpr h0
  subst hc
  subst h0
  have hT : T = 0 := by rcases h6 with ⟨_, q⟩ | ⟨_, q⟩ <;> omega
  subst hT
  exact ⟨⟨uz_R h1.1 hz, h1.2.1, h1.2.2⟩, uz_E h2, h3, h4, IsC_0, Or.inr ⟨fun h => absurd h.1 (Nat.not_lt_zero 0), rfl⟩, fun i h => absurd h (Nat.not_lt_zero i), by omega⟩
theorem MI_kind {a kt t mA mK mT mB mZ mO mL : Nat → Int} {n cn T i : Nat} {fa fl z : Int} (h : MI a kt t n cn T mA mK mT mB mZ mO mL fa fl) (h0 : n = 0) (hz : -1 ≤ z ∧ z < 100) : MI a (uz kt i z) t n cn T mA (uz mK i z) mT mB mZ mO mL fa fl := by
  obtain ⟨h1, h2, h3, h4, h5, h6, h7, h8⟩ := h
  have hc := (IsC_z h5).mpr h0
  subst hc
  subst h0
  have hT : T = 0 := by rcases h6 with ⟨_, q⟩ | ⟨_, q⟩ <;> omega
  subst hT
  exact ⟨⟨h1.1, uz_R h1.2.1 hz, h1.2.2⟩, h2, uz_E h3, h4, IsC_0, Or.inr ⟨fun h => absurd h.1 (Nat.not_lt_zero 0), rfl⟩, fun i h => absurd h (Nat.not_lt_zero i), by omega⟩
end
section
set_option maxHeartbeats 8000000 in
set_option maxRecDepth 100000 in
/-- THE LAW'S LOOP: at its head, with i ints read, the scanner and the model mean the same -/
theorem law_loop {p : Program} {l : Launch} {e : Env} {s : State} {m : MethodId} {below : List Frame} {meth : Method} {c : Code} {D : va_G} {cA : Nat → ClassId} {b L : Nat} {xs : Nat → Int32} (hL : L ≤ 3072) (X : Cx p s m #[Value.ref b] c code 4 R_law D cA) (hr : meth.sig.returnType = ret) (hlk : meth.locks = false) (hX : va_X b L xs s s.heap) (hbl : b < s.heap.size) :
    ∀ (f i : Nat) (h : Nat → Nat) (k : Nat → Nat) (a : Nat → Int) (kt : Nat → Int) (t : Nat → Int) (n : Nat) (cn : Nat) (T : Nat) (gA : Nat → Int) (gK : Nat → Int) (row : Nat → Int) (P : Nat → Int) (S : Nat → Int) (L0 : Nat → Int) (K : Nat → Int) (yl : Nat) (d : Nat) (cl : Nat) (g : Nat) (rd : Int) (an : Int) (ed : Int) (sz : Int) (lk : Int) (kd : Int) (mA : Nat → Int) (mK : Nat → Int) (mT : Nat → Int) (mB : Nat → Int) (mZ : Nat → Int) (mO : Nat → Int) (mL : Nat → Int) (mQ : Nat → Int) (fa : Int) (fl : Int) (oT : Int) (oF : Int) (oS : Int) (tS : Int) (tK : Int) (tL : Int), L < f + i → i ≤ L + 6 → CI a kt t n cn gA gK row P S L0 K yl d cl g → MI a kt t n cn T mA mK mT mB mZ mO mL fa fl → ∀ (H : Heap) (locs : List Loc) (ls : Array Slot), Wd D (fun q : Nat => s.heap.size ≤ q) s.heap ((w_Ed h cA gA gK row (yl:Int) ((yl + d : Nat):Int) P S L0 K (cl:Int) ((cl + g : Nat):Int) rd an ed sz lk kd) ++ (w_Mo k cA mA mK mT (n:Int) (T:Int) mB mZ mO mL fa fl oT mQ oF oS rd an ed tS tK tL)) H locs → lv_has ls 4 [(3, .int (iI (i:Int))), (2, .ref (k 0)), (1, .ref (h 0)), (0, .ref b)] → W p l e room_1 s m #[Value.ref b] below meth c H locs 20 4885 (lw_Z below #[Value.ref b] s) (F0 m 18 ls []) := by
  have hbA : ¬ (fun q : Nat => s.heap.size ≤ q) b := Nat.not_le.mpr hbl
  intro f
  induction f with
  | zero =>
    intro i h k a kt t n cn T gA gK row P S L0 K yl d cl g rd an ed sz lk kd mA mK mT mB mZ mO mL mQ fa fl oT oF oS tS tK tL hf hi hI hM H locs ls hw hl
    refine lv_iload_n X.1 X.2.1 d_law_18 rfl (lv_at hl 0 rfl) ?_
    refine lv_aload_n X.1 X.2.1 d_law_19 rfl (lv_at hl 3 rfl) ?_
    refine z_slen X hX hbl hbA hw.2.2.1 d_law_20 ?_
    refine z_bipush X d_law_21 (by decide) ?_
    refine z_isub (r := ((L:Int) - 6)) X d_law_23 rfl ?_
    refine z_icmp_gt (tgt := 360) X d_law_24 (by decide) (by omega) (by omega) (fun c_24 => ?_) (fun c_24 => ?_)
    · refine z_iconst X d_law_360 ?_
      refine va_forget (fun q hq => hw.2.2.1.2.2 q hq) ?_
      exact lw_ret X.1 X.2.1 hr hlk d_law_361
    · exfalso; omega
  | succ f ih =>
    intro i h k a kt t n cn T gA gK row P S L0 K yl d cl g rd an ed sz lk kd mA mK mT mB mZ mO mL mQ fa fl oT oF oS tS tK tL hf hi hI hM H locs ls hw hl
    refine lv_iload_n X.1 X.2.1 d_law_18 rfl (lv_at hl 0 rfl) ?_
    refine lv_aload_n X.1 X.2.1 d_law_19 rfl (lv_at hl 3 rfl) ?_
    refine z_slen X hX hbl hbA hw.2.2.1 d_law_20 ?_
    refine z_bipush X d_law_21 (by decide) ?_
    refine z_isub (r := ((L:Int) - 6)) X d_law_23 rfl ?_
    refine z_icmp_gt (tgt := 360) X d_law_24 (by decide) (by omega) (by omega) (fun c_24 => ?_) (fun c_24 => ?_)
    · refine z_iconst X d_law_360 ?_
      refine va_forget (fun q hq => hw.2.2.1.2.2 q hq) ?_
      exact lw_ret X.1 X.2.1 hr hlk d_law_361
    · obtain ⟨z0, hz0, hr0⟩ := iI_of (xs i)
      obtain ⟨z1, hz1, hr1⟩ := iI_of (xs (i + 1))
      obtain ⟨z2, hz2, hr2⟩ := iI_of (xs (i + 2))
      obtain ⟨z3, hz3, hr3⟩ := iI_of (xs (i + 3))
      obtain ⟨z4, hz4, hr4⟩ := iI_of (xs (i + 4))
      obtain ⟨z5, hz5, hr5⟩ := iI_of (xs (i + 5))
      refine lv_aload_n X.1 X.2.1 d_law_27 rfl (lv_at hl 3 rfl) ?_
      refine lv_iload_n X.1 X.2.1 d_law_28 rfl (lv_at hl 0 rfl) ?_
      refine z_sld X hX hbl hbA hw.2.2.1 i (by omega) (by omega) (by omega) hz0 d_law_29 ?_
      refine z_bipush X d_law_30 (by decide) ?_
      refine z_and7 X d_law_32 (fun j hj => ?_)
      by_cases w_0 : (j:Int) = 0
      · refine z_tin (tgt := 80) X d_law_33 (by omega) 0 w_0 (by decide) rfl (by decide) ?_
        have hnd : n + d = 400 := hI.2.2.2.2.1
        have hyd : yl + d ≤ 400 := hI.2.2.2.1
        have hn4 := hM.1.2.2.2
        by_cases hok : 0 ≤ z1 ∧ z1 < 20 ∧ 0 ≤ z2 ∧ z2 < 10 ∧ -1 ≤ z3 ∧ z3 < 20 ∧ n = 0
        · obtain ⟨st, rfl⟩ : ∃ st : Nat, z1 = (st:Int) := ⟨z1.toNat, by omega⟩
          obtain ⟨sx, rfl⟩ : ∃ sx : Nat, z2 = (sx:Int) := ⟨z2.toNat, by omega⟩
          refine lv_aload_n X.1 X.2.1 d_law_80 rfl (lv_at hl 2 rfl) ?_
          refine lv_aload_n X.1 X.2.1 d_law_81 rfl (lv_at hl 3 rfl) ?_
          refine lv_iload_n X.1 X.2.1 d_law_82 rfl (lv_at hl 0 rfl) ?_
          refine z_iconst X d_law_83 ?_
          refine z_iadd (r := ((i:Int) + 1)) X d_law_84 rfl ?_
          refine z_sld X hX hbl hbA hw.2.2.1 (i + 1) (by omega) (by omega) (by omega) hz1 d_law_85 ?_
          refine lv_aload_n X.1 X.2.1 d_law_86 rfl (lv_at hl 3 rfl) ?_
          refine lv_iload_n X.1 X.2.1 d_law_87 rfl (lv_at hl 0 rfl) ?_
          refine z_iconst X d_law_88 ?_
          refine z_iadd (r := ((i:Int) + 2)) X d_law_89 rfl ?_
          refine z_sld X hX hbl hbA hw.2.2.1 (i + 2) (by omega) (by omega) (by omega) hz2 d_law_90 ?_
          refine lv_aload_n X.1 X.2.1 d_law_91 rfl (lv_at hl 3 rfl) ?_
          refine lv_iload_n X.1 X.2.1 d_law_92 rfl (lv_at hl 0 rfl) ?_
          refine z_iconst X d_law_93 ?_
          refine z_iadd (r := ((i:Int) + 3)) X d_law_94 rfl ?_
          refine z_sld X hX hbl hbA hw.2.2.1 (i + 3) (by omega) (by omega) (by omega) hz3 d_law_95 ?_
          refine z_afterI (w2 := fun u => ((w_Ed h cA (uz gA (10 * st + sx) z3) gK row (yl:Int) ((yl + d : Nat):Int) P S L0 K (cl:Int) ((cl + g : Nat):Int) rd an ed sz lk kd) ++ (w_Mo k cA mA mK mT (n:Int) (T:Int) mB mZ mO mL fa fl oT mQ oF oS rd an ed tS tK tL))) (wr := [(k 0, .inr (4, [.ref (k 1), .ref (k 2), .ref (k 3), .int (iI (n:Int)), .int (iI (T:Int)), .ref (k 4), .ref (k 5), .ref (k 6), .ref (k 7), .int (iI fa), .int (iI fl), .int (iI oT), .ref (k 8), .int (iI oF), .int (iI oS), .int (iI rd), .int (iI an), .int (iI ed), .int (iI tS), .int (iI tK), .int (iI tL)])), (k 1, .inl (cA 1, 200, .inl (zf mA))), (k 2, .inl (cA 1, 20, .inl (zf mK))), (k 3, .inl (cA 1, 400, .inl (zf mT))), (k 4, .inl (cA 1, 400, .inl (zf mB))), (k 5, .inl (cA 1, 400, .inl (zf mZ))), (k 6, .inl (cA 1, 400, .inl (zf mO))), (k 7, .inl (cA 1, 400, .inl (zf mL))), (k 8, .inl (cA 1, 400, .inl (zf mQ)))]) hw (z_runV (rest := []) X hw k_Ed v_law_13 [.int (iI (st:Int)), .int (iI (sx:Int)), .int (iI z3)] (c_Ed_arrow_good l D cA h _ gA gK row P S L0 K yl d cl g rd an ed sz lk kd st sx z3 (by omega) (by omega) (by omega) hyd (by omega)) 0 rfl [0, 1, 2, 3, 4, 5, 6, 7, 8, 9, 10] rfl rfl rfl rfl hl.1 rfl (Nat.le_of_ble_eq_true rfl) ⟨rfl, rfl, Nat.le_of_ble_eq_true rfl, Nat.le_of_ble_eq_true rfl⟩ ⟨Nat.le_of_ble_eq_true rfl, Nat.le_of_ble_eq_true rfl⟩ d_law_96) [0, 1, 2, 3, 4, 5, 6, 7, 8, 9, 10] [11, 12, 13, 14, 15, 16, 17, 18, 19] [9, 10, 11, 12, 13, 14, 15, 16, 17, 18, 19, 0, 1, 2, 3, 4, 5, 6, 7, 8] rfl rfl rfl (by decide) rfl (fun _ => rfl) (fun _ => rfl) (fun z_96 u_96 H locs hu_96 hw => ?_)
          refine lv_aload_n X.1 X.2.1 d_law_99 rfl (lv_at hl 1 rfl) ?_
          refine lv_aload_n X.1 X.2.1 d_law_100 rfl (lv_at hl 3 rfl) ?_
          refine lv_iload_n X.1 X.2.1 d_law_101 rfl (lv_at hl 0 rfl) ?_
          refine z_iconst X d_law_102 ?_
          refine z_iadd (r := ((i:Int) + 1)) X d_law_103 rfl ?_
          refine z_sld X hX hbl hbA hw.2.2.1 (i + 1) (by omega) (by omega) (by omega) hz1 d_law_104 ?_
          refine lv_aload_n X.1 X.2.1 d_law_105 rfl (lv_at hl 3 rfl) ?_
          refine lv_iload_n X.1 X.2.1 d_law_106 rfl (lv_at hl 0 rfl) ?_
          refine z_iconst X d_law_107 ?_
          refine z_iadd (r := ((i:Int) + 2)) X d_law_108 rfl ?_
          refine z_sld X hX hbl hbA hw.2.2.1 (i + 2) (by omega) (by omega) (by omega) hz2 d_law_109 ?_
          refine lv_aload_n X.1 X.2.1 d_law_110 rfl (lv_at hl 3 rfl) ?_
          refine lv_iload_n X.1 X.2.1 d_law_111 rfl (lv_at hl 0 rfl) ?_
          refine z_iconst X d_law_112 ?_
          refine z_iadd (r := ((i:Int) + 3)) X d_law_113 rfl ?_
          refine z_sld X hX hbl hbA hw.2.2.1 (i + 3) (by omega) (by omega) (by omega) hz3 d_law_114 ?_
          refine z_afterI (w2 := fun u => ((w_Ed h cA (uz gA (10 * st + sx) z3) gK row (yl:Int) ((yl + d : Nat):Int) P S L0 K (cl:Int) ((cl + g : Nat):Int) rd an ed sz lk kd) ++ (w_Mo k cA (uz mA (10 * st + sx) z3) mK mT (n:Int) (T:Int) mB mZ mO mL fa fl oT mQ oF oS rd an ed tS tK tL))) (wr := [(h 0, .inr (3, [.ref (h 1), .ref (h 4), .ref (h 6), .int (iI rd), .int (iI an), .int (iI ed), .int (iI sz), .int (iI lk), .int (iI kd)])), (h 1, .inr (0, [.ref (h 2), .ref (h 3)])), (h 2, .inl (cA 0, 200, .inl (zf (uz gA (10 * st + sx) z3)))), (h 3, .inl (cA 0, 20, .inl (zf gK))), (h 4, .inr (1, [.ref (h 5), .int (iI (yl:Int)), .int (iI ((yl + d : Nat):Int))])), (h 5, .inl (cA 0, 400, .inl (zf row))), (h 6, .inr (2, [.ref (h 7), .ref (h 8), .ref (h 9), .ref (h 10), .int (iI (cl:Int)), .int (iI ((cl + g : Nat):Int))])), (h 7, .inl (cA 1, 401, .inl (zf P))), (h 8, .inl (cA 2, 401, .inl (zf S))), (h 9, .inl (cA 2, 401, .inl (zf L0))), (h 10, .inl (cA 0, 401, .inl (zf K)))]) hw (z_runV (rest := [.int (iI z_96)]) X hw k_Mo v_law_17 [.int (iI (st:Int)), .int (iI (sx:Int)), .int (iI z3)] (c_Mo_arrow_good l D cA k _ mA mK mT mB mZ mO mL mQ (T:Int) fa fl oT oF oS rd an ed tS tK tL n st sx z3 (by omega) (by omega) (by omega) (by omega)) 11 rfl [11, 12, 13, 14, 15, 16, 17, 18, 19] rfl rfl rfl rfl hl.1 rfl (Nat.le_of_ble_eq_true rfl) ⟨rfl, rfl, Nat.le_of_ble_eq_true rfl, Nat.le_of_ble_eq_true rfl⟩ ⟨Nat.le_of_ble_eq_true rfl, Nat.le_of_ble_eq_true rfl⟩ d_law_115) [11, 12, 13, 14, 15, 16, 17, 18, 19] [0, 1, 2, 3, 4, 5, 6, 7, 8, 9, 10] [0, 1, 2, 3, 4, 5, 6, 7, 8, 9, 10, 11, 12, 13, 14, 15, 16, 17, 18, 19] rfl rfl rfl (by decide) rfl (fun _ => rfl) (fun _ => rfl) (fun z_115 u_115 H locs hu_115 hw => ?_)
          subst hu_96
          subst hu_115
          refine lv_icmp_eq (tgt := 354) X.1 X.2.1 d_law_118 (by decide) (fun _ => ?_) (fun c => absurd rfl c)
          refine z_iinc (lv' := [(3, .int (iI ((i + 6 : Nat):Int))), (2, .ref (k 0)), (1, .ref (h 0)), (0, .ref b)]) (r := ((i + 6 : Nat):Int)) (k := 0) X d_law_354 hl rfl (by omega) (by decide) rfl (fun ls hl => ?_)
          refine z_goto (tgt := 18) X d_law_357 (by decide) ?_
          exact ih (i + 6) h k (uz a (10 * st + sx) z3) kt t n cn T (uz gA (10 * st + sx) z3) gK row P S L0 K yl d cl g rd an ed sz lk kd (uz mA (10 * st + sx) z3) mK mT mB mZ mO mL mQ fa fl oT oF oS tS tK tL (by omega) (by omega) (CI_arrow hI (by omega) (by omega)) (MI_arrow hM (by omega) (by omega)) H locs ls hw (lv_sub hl [0, 1, 2, 3] rfl)
        · refine lv_aload_n X.1 X.2.1 d_law_80 rfl (lv_at hl 2 rfl) ?_
          refine lv_aload_n X.1 X.2.1 d_law_81 rfl (lv_at hl 3 rfl) ?_
          refine lv_iload_n X.1 X.2.1 d_law_82 rfl (lv_at hl 0 rfl) ?_
          refine z_iconst X d_law_83 ?_
          refine z_iadd (r := ((i:Int) + 1)) X d_law_84 rfl ?_
          refine z_sld X hX hbl hbA hw.2.2.1 (i + 1) (by omega) (by omega) (by omega) hz1 d_law_85 ?_
          refine lv_aload_n X.1 X.2.1 d_law_86 rfl (lv_at hl 3 rfl) ?_
          refine lv_iload_n X.1 X.2.1 d_law_87 rfl (lv_at hl 0 rfl) ?_
          refine z_iconst X d_law_88 ?_
          refine z_iadd (r := ((i:Int) + 2)) X d_law_89 rfl ?_
          refine z_sld X hX hbl hbA hw.2.2.1 (i + 2) (by omega) (by omega) (by omega) hz2 d_law_90 ?_
          refine lv_aload_n X.1 X.2.1 d_law_91 rfl (lv_at hl 3 rfl) ?_
          refine lv_iload_n X.1 X.2.1 d_law_92 rfl (lv_at hl 0 rfl) ?_
          refine z_iconst X d_law_93 ?_
          refine z_iadd (r := ((i:Int) + 3)) X d_law_94 rfl ?_
          refine z_sld X hX hbl hbA hw.2.2.1 (i + 3) (by omega) (by omega) (by omega) hz3 d_law_95 ?_
          refine z_callR (rest := []) X hw k_Ed v_law_13 [.int (iI z1), .int (iI z2), .int (iI z3)] (c_Ed_arrow_bad l D cA h _ gA gK row P S L0 K yl d cl g rd an ed sz lk kd z1 z2 z3 hr1 hr2 hr3 hyd (by omega)) 0 rfl [0, 1, 2, 3, 4, 5, 6, 7, 8, 9, 10] rfl rfl rfl rfl hl.1 rfl (Nat.le_of_ble_eq_true rfl) ⟨rfl, rfl, Nat.le_of_ble_eq_true rfl, Nat.le_of_ble_eq_true rfl⟩ ⟨Nat.le_of_ble_eq_true rfl, Nat.le_of_ble_eq_true rfl⟩ d_law_96 (fun z_96 hz_96 => ?_)
          refine lv_aload_n X.1 X.2.1 d_law_99 rfl (lv_at hl 1 rfl) ?_
          refine lv_aload_n X.1 X.2.1 d_law_100 rfl (lv_at hl 3 rfl) ?_
          refine lv_iload_n X.1 X.2.1 d_law_101 rfl (lv_at hl 0 rfl) ?_
          refine z_iconst X d_law_102 ?_
          refine z_iadd (r := ((i:Int) + 1)) X d_law_103 rfl ?_
          refine z_sld X hX hbl hbA hw.2.2.1 (i + 1) (by omega) (by omega) (by omega) hz1 d_law_104 ?_
          refine lv_aload_n X.1 X.2.1 d_law_105 rfl (lv_at hl 3 rfl) ?_
          refine lv_iload_n X.1 X.2.1 d_law_106 rfl (lv_at hl 0 rfl) ?_
          refine z_iconst X d_law_107 ?_
          refine z_iadd (r := ((i:Int) + 2)) X d_law_108 rfl ?_
          refine z_sld X hX hbl hbA hw.2.2.1 (i + 2) (by omega) (by omega) (by omega) hz2 d_law_109 ?_
          refine lv_aload_n X.1 X.2.1 d_law_110 rfl (lv_at hl 3 rfl) ?_
          refine lv_iload_n X.1 X.2.1 d_law_111 rfl (lv_at hl 0 rfl) ?_
          refine z_iconst X d_law_112 ?_
          refine z_iadd (r := ((i:Int) + 3)) X d_law_113 rfl ?_
          refine z_sld X hX hbl hbA hw.2.2.1 (i + 3) (by omega) (by omega) (by omega) hz3 d_law_114 ?_
          refine z_callR (rest := [.int (iI z_96)]) X hw k_Mo v_law_17 [.int (iI z1), .int (iI z2), .int (iI z3)] (c_Mo_arrow_bad l D cA k _ mA mK mT mB mZ mO mL mQ (T:Int) fa fl oT oF oS rd an ed tS tK tL n z1 z2 z3 hr1 hr2 hr3 hn4 hok) 11 rfl [11, 12, 13, 14, 15, 16, 17, 18, 19] rfl rfl rfl rfl hl.1 rfl (Nat.le_of_ble_eq_true rfl) ⟨rfl, rfl, Nat.le_of_ble_eq_true rfl, Nat.le_of_ble_eq_true rfl⟩ ⟨Nat.le_of_ble_eq_true rfl, Nat.le_of_ble_eq_true rfl⟩ d_law_115 (fun z_115 hz_115 => ?_)
          subst hz_96
          subst hz_115
          refine lv_icmp_eq (tgt := 354) X.1 X.2.1 d_law_118 (by decide) (fun _ => ?_) (fun c => absurd rfl c)
          refine z_iinc (lv' := [(3, .int (iI ((i + 6 : Nat):Int))), (2, .ref (k 0)), (1, .ref (h 0)), (0, .ref b)]) (r := ((i + 6 : Nat):Int)) (k := 0) X d_law_354 hl rfl (by omega) (by decide) rfl (fun ls hl => ?_)
          refine z_goto (tgt := 18) X d_law_357 (by decide) ?_
          exact ih (i + 6) h k a kt t n cn T gA gK row P S L0 K yl d cl g rd an ed sz lk kd mA mK mT mB mZ mO mL mQ fa fl oT oF oS tS tK tL (by omega) (by omega) hI hM H locs ls hw (lv_sub hl [0, 1, 2, 3] rfl)
      by_cases w_1 : (j:Int) = 1
      · refine z_tin (tgt := 123) X d_law_33 (by omega) 1 w_1 (by decide) rfl (by decide) ?_
        have hnd : n + d = 400 := hI.2.2.2.2.1
        have hyd : yl + d ≤ 400 := hI.2.2.2.1
        have hn4 := hM.1.2.2.2
        by_cases hok : 0 ≤ z1 ∧ z1 < 20 ∧ -1 ≤ z2 ∧ z2 < 100 ∧ n = 0
        · obtain ⟨st, rfl⟩ : ∃ st : Nat, z1 = (st:Int) := ⟨z1.toNat, by omega⟩
          refine lv_aload_n X.1 X.2.1 d_law_123 rfl (lv_at hl 2 rfl) ?_
          refine lv_aload_n X.1 X.2.1 d_law_124 rfl (lv_at hl 3 rfl) ?_
          refine lv_iload_n X.1 X.2.1 d_law_125 rfl (lv_at hl 0 rfl) ?_
          refine z_iconst X d_law_126 ?_
          refine z_iadd (r := ((i:Int) + 1)) X d_law_127 rfl ?_
          refine z_sld X hX hbl hbA hw.2.2.1 (i + 1) (by omega) (by omega) (by omega) hz1 d_law_128 ?_
          refine lv_aload_n X.1 X.2.1 d_law_129 rfl (lv_at hl 3 rfl) ?_
          refine lv_iload_n X.1 X.2.1 d_law_130 rfl (lv_at hl 0 rfl) ?_
          refine z_iconst X d_law_131 ?_
          refine z_iadd (r := ((i:Int) + 2)) X d_law_132 rfl ?_
          refine z_sld X hX hbl hbA hw.2.2.1 (i + 2) (by omega) (by omega) (by omega) hz2 d_law_133 ?_
          refine z_afterI (w2 := fun u => ((w_Ed h cA gA (uz gK st z2) row (yl:Int) ((yl + d : Nat):Int) P S L0 K (cl:Int) ((cl + g : Nat):Int) rd an ed sz lk kd) ++ (w_Mo k cA mA mK mT (n:Int) (T:Int) mB mZ mO mL fa fl oT mQ oF oS rd an ed tS tK tL))) (wr := [(k 0, .inr (4, [.ref (k 1), .ref (k 2), .ref (k 3), .int (iI (n:Int)), .int (iI (T:Int)), .ref (k 4), .ref (k 5), .ref (k 6), .ref (k 7), .int (iI fa), .int (iI fl), .int (iI oT), .ref (k 8), .int (iI oF), .int (iI oS), .int (iI rd), .int (iI an), .int (iI ed), .int (iI tS), .int (iI tK), .int (iI tL)])), (k 1, .inl (cA 1, 200, .inl (zf mA))), (k 2, .inl (cA 1, 20, .inl (zf mK))), (k 3, .inl (cA 1, 400, .inl (zf mT))), (k 4, .inl (cA 1, 400, .inl (zf mB))), (k 5, .inl (cA 1, 400, .inl (zf mZ))), (k 6, .inl (cA 1, 400, .inl (zf mO))), (k 7, .inl (cA 1, 400, .inl (zf mL))), (k 8, .inl (cA 1, 400, .inl (zf mQ)))]) hw (z_runV (rest := []) X hw k_Ed v_law_18 [.int (iI (st:Int)), .int (iI z2)] (c_Ed_kind_good l D cA h _ gA gK row P S L0 K yl d cl g rd an ed sz lk kd st z2 (by omega) (by omega) hyd (by omega)) 0 rfl [0, 1, 2, 3, 4, 5, 6, 7, 8, 9, 10] rfl rfl rfl rfl hl.1 rfl (Nat.le_of_ble_eq_true rfl) ⟨rfl, rfl, Nat.le_of_ble_eq_true rfl, Nat.le_of_ble_eq_true rfl⟩ ⟨Nat.le_of_ble_eq_true rfl, Nat.le_of_ble_eq_true rfl⟩ d_law_134) [0, 1, 2, 3, 4, 5, 6, 7, 8, 9, 10] [11, 12, 13, 14, 15, 16, 17, 18, 19] [9, 10, 11, 12, 13, 14, 15, 16, 17, 18, 19, 0, 1, 2, 3, 4, 5, 6, 7, 8] rfl rfl rfl (by decide) rfl (fun _ => rfl) (fun _ => rfl) (fun z_134 u_134 H locs hu_134 hw => ?_)
          refine lv_aload_n X.1 X.2.1 d_law_137 rfl (lv_at hl 1 rfl) ?_
          refine lv_aload_n X.1 X.2.1 d_law_138 rfl (lv_at hl 3 rfl) ?_
          refine lv_iload_n X.1 X.2.1 d_law_139 rfl (lv_at hl 0 rfl) ?_
          refine z_iconst X d_law_140 ?_
          refine z_iadd (r := ((i:Int) + 1)) X d_law_141 rfl ?_
          refine z_sld X hX hbl hbA hw.2.2.1 (i + 1) (by omega) (by omega) (by omega) hz1 d_law_142 ?_
          refine lv_aload_n X.1 X.2.1 d_law_143 rfl (lv_at hl 3 rfl) ?_
          refine lv_iload_n X.1 X.2.1 d_law_144 rfl (lv_at hl 0 rfl) ?_
          refine z_iconst X d_law_145 ?_
          refine z_iadd (r := ((i:Int) + 2)) X d_law_146 rfl ?_
          refine z_sld X hX hbl hbA hw.2.2.1 (i + 2) (by omega) (by omega) (by omega) hz2 d_law_147 ?_
          refine z_afterI (w2 := fun u => ((w_Ed h cA gA (uz gK st z2) row (yl:Int) ((yl + d : Nat):Int) P S L0 K (cl:Int) ((cl + g : Nat):Int) rd an ed sz lk kd) ++ (w_Mo k cA mA (uz mK st z2) mT (n:Int) (T:Int) mB mZ mO mL fa fl oT mQ oF oS rd an ed tS tK tL))) (wr := [(h 0, .inr (3, [.ref (h 1), .ref (h 4), .ref (h 6), .int (iI rd), .int (iI an), .int (iI ed), .int (iI sz), .int (iI lk), .int (iI kd)])), (h 1, .inr (0, [.ref (h 2), .ref (h 3)])), (h 2, .inl (cA 0, 200, .inl (zf gA))), (h 3, .inl (cA 0, 20, .inl (zf (uz gK st z2)))), (h 4, .inr (1, [.ref (h 5), .int (iI (yl:Int)), .int (iI ((yl + d : Nat):Int))])), (h 5, .inl (cA 0, 400, .inl (zf row))), (h 6, .inr (2, [.ref (h 7), .ref (h 8), .ref (h 9), .ref (h 10), .int (iI (cl:Int)), .int (iI ((cl + g : Nat):Int))])), (h 7, .inl (cA 1, 401, .inl (zf P))), (h 8, .inl (cA 2, 401, .inl (zf S))), (h 9, .inl (cA 2, 401, .inl (zf L0))), (h 10, .inl (cA 0, 401, .inl (zf K)))]) hw (z_runV (rest := [.int (iI z_134)]) X hw k_Mo v_law_22 [.int (iI (st:Int)), .int (iI z2)] (c_Mo_kind_good l D cA k _ mA mK mT mB mZ mO mL mQ (T:Int) fa fl oT oF oS rd an ed tS tK tL n st z2 (by omega) (by omega) (by omega)) 11 rfl [11, 12, 13, 14, 15, 16, 17, 18, 19] rfl rfl rfl rfl hl.1 rfl (Nat.le_of_ble_eq_true rfl) ⟨rfl, rfl, Nat.le_of_ble_eq_true rfl, Nat.le_of_ble_eq_true rfl⟩ ⟨Nat.le_of_ble_eq_true rfl, Nat.le_of_ble_eq_true rfl⟩ d_law_148) [11, 12, 13, 14, 15, 16, 17, 18, 19] [0, 1, 2, 3, 4, 5, 6, 7, 8, 9, 10] [0, 1, 2, 3, 4, 5, 6, 7, 8, 9, 10, 11, 12, 13, 14, 15, 16, 17, 18, 19] rfl rfl rfl (by decide) rfl (fun _ => rfl) (fun _ => rfl) (fun z_148 u_148 H locs hu_148 hw => ?_)
          subst hu_134
          subst hu_148
          refine lv_icmp_eq (tgt := 354) X.1 X.2.1 d_law_151 (by decide) (fun _ => ?_) (fun c => absurd rfl c)
          refine z_iinc (lv' := [(3, .int (iI ((i + 6 : Nat):Int))), (2, .ref (k 0)), (1, .ref (h 0)), (0, .ref b)]) (r := ((i + 6 : Nat):Int)) (k := 0) X d_law_354 hl rfl (by omega) (by decide) rfl (fun ls hl => ?_)
          refine z_goto (tgt := 18) X d_law_357 (by decide) ?_
          exact ih (i + 6) h k a (uz kt st z2) t n cn T gA (uz gK st z2) row P S L0 K yl d cl g rd an ed sz lk kd mA (uz mK st z2) mT mB mZ mO mL mQ fa fl oT oF oS tS tK tL (by omega) (by omega) (CI_kind hI (by omega) (by omega)) (MI_kind hM (by omega) (by omega)) H locs ls hw (lv_sub hl [0, 1, 2, 3] rfl)
        · refine lv_aload_n X.1 X.2.1 d_law_123 rfl (lv_at hl 2 rfl) ?_
          refine lv_aload_n X.1 X.2.1 d_law_124 rfl (lv_at hl 3 rfl) ?_
          refine lv_iload_n X.1 X.2.1 d_law_125 rfl (lv_at hl 0 rfl) ?_
          refine z_iconst X d_law_126 ?_
          refine z_iadd (r := ((i:Int) + 1)) X d_law_127 rfl ?_
          refine z_sld X hX hbl hbA hw.2.2.1 (i + 1) (by omega) (by omega) (by omega) hz1 d_law_128 ?_
          refine lv_aload_n X.1 X.2.1 d_law_129 rfl (lv_at hl 3 rfl) ?_
          refine lv_iload_n X.1 X.2.1 d_law_130 rfl (lv_at hl 0 rfl) ?_
          refine z_iconst X d_law_131 ?_
          refine z_iadd (r := ((i:Int) + 2)) X d_law_132 rfl ?_
          refine z_sld X hX hbl hbA hw.2.2.1 (i + 2) (by omega) (by omega) (by omega) hz2 d_law_133 ?_
          refine z_callR (rest := []) X hw k_Ed v_law_18 [.int (iI z1), .int (iI z2)] (c_Ed_kind_bad l D cA h _ gA gK row P S L0 K yl d cl g rd an ed sz lk kd z1 z2 hr1 hr2 hyd (by omega)) 0 rfl [0, 1, 2, 3, 4, 5, 6, 7, 8, 9, 10] rfl rfl rfl rfl hl.1 rfl (Nat.le_of_ble_eq_true rfl) ⟨rfl, rfl, Nat.le_of_ble_eq_true rfl, Nat.le_of_ble_eq_true rfl⟩ ⟨Nat.le_of_ble_eq_true rfl, Nat.le_of_ble_eq_true rfl⟩ d_law_134 (fun z_134 hz_134 => ?_)
          refine lv_aload_n X.1 X.2.1 d_law_137 rfl (lv_at hl 1 rfl) ?_
          refine lv_aload_n X.1 X.2.1 d_law_138 rfl (lv_at hl 3 rfl) ?_
          refine lv_iload_n X.1 X.2.1 d_law_139 rfl (lv_at hl 0 rfl) ?_
          refine z_iconst X d_law_140 ?_
          refine z_iadd (r := ((i:Int) + 1)) X d_law_141 rfl ?_
          refine z_sld X hX hbl hbA hw.2.2.1 (i + 1) (by omega) (by omega) (by omega) hz1 d_law_142 ?_
          refine lv_aload_n X.1 X.2.1 d_law_143 rfl (lv_at hl 3 rfl) ?_
          refine lv_iload_n X.1 X.2.1 d_law_144 rfl (lv_at hl 0 rfl) ?_
          refine z_iconst X d_law_145 ?_
          refine z_iadd (r := ((i:Int) + 2)) X d_law_146 rfl ?_
          refine z_sld X hX hbl hbA hw.2.2.1 (i + 2) (by omega) (by omega) (by omega) hz2 d_law_147 ?_
          refine z_callR (rest := [.int (iI z_134)]) X hw k_Mo v_law_22 [.int (iI z1), .int (iI z2)] (c_Mo_kind_bad l D cA k _ mA mK mT mB mZ mO mL mQ (T:Int) fa fl oT oF oS rd an ed tS tK tL n z1 z2 hr1 hr2 hn4 hok) 11 rfl [11, 12, 13, 14, 15, 16, 17, 18, 19] rfl rfl rfl rfl hl.1 rfl (Nat.le_of_ble_eq_true rfl) ⟨rfl, rfl, Nat.le_of_ble_eq_true rfl, Nat.le_of_ble_eq_true rfl⟩ ⟨Nat.le_of_ble_eq_true rfl, Nat.le_of_ble_eq_true rfl⟩ d_law_148 (fun z_148 hz_148 => ?_)
          subst hz_134
          subst hz_148
          refine lv_icmp_eq (tgt := 354) X.1 X.2.1 d_law_151 (by decide) (fun _ => ?_) (fun c => absurd rfl c)
          refine z_iinc (lv' := [(3, .int (iI ((i + 6 : Nat):Int))), (2, .ref (k 0)), (1, .ref (h 0)), (0, .ref b)]) (r := ((i + 6 : Nat):Int)) (k := 0) X d_law_354 hl rfl (by omega) (by decide) rfl (fun ls hl => ?_)
          refine z_goto (tgt := 18) X d_law_357 (by decide) ?_
          exact ih (i + 6) h k a kt t n cn T gA gK row P S L0 K yl d cl g rd an ed sz lk kd mA mK mT mB mZ mO mL mQ fa fl oT oF oS tS tK tL (by omega) (by omega) hI hM H locs ls hw (lv_sub hl [0, 1, 2, 3] rfl)
      by_cases w_2 : (j:Int) = 2
      · refine z_tin (tgt := 156) X d_law_33 (by omega) 2 w_2 (by decide) rfl (by decide) ?_
        have hnd : n + d = 400 := hI.2.2.2.2.1
        have hyd : yl + d ≤ 400 := hI.2.2.2.1
        have hn4 := hM.1.2.2.2
        obtain ⟨v0, hv0⟩ : ∃ v0 : Int64, v0 = (((iI z3).toInt64 <<< ((iI 32).toInt64 &&& 63)) ||| ((iI z4).toInt64 &&& 4294967295)) := ⟨_, rfl⟩
        by_cases hok : okE n z1 z2 z5 v0
        · obtain ⟨ho1, ho2, ho3, ho4, ho5, ho6, ho7, ho8⟩ := hok
          obtain ⟨pl, rfl⟩ : ∃ q : Nat, z1 = (q:Int) := ⟨z1.toNat, by omega⟩
          obtain ⟨po, rfl⟩ : ∃ q : Nat, z2 = (q:Int) := ⟨z2.toNat, by omega⟩
          obtain ⟨pm, rfl⟩ : ∃ q : Nat, z5 = (q:Int) := ⟨z5.toNat, by omega⟩
          rw [Int.toNat_natCast] at ho3
          obtain ⟨n2, hn2⟩ : ∃ n2, n2 + po = n + pm := ⟨n + pm - po, by omega⟩
          obtain ⟨t2, ht2⟩ : ∃ t2, t2 = et t pl po pm (wv v0 pm) := ⟨_, rfl⟩
          obtain ⟨stop, hSt⟩ := St_ex (sc a kt t n) cn pl po pm
          refine lv_aload_n X.1 X.2.1 d_law_156 rfl (lv_at hl 2 rfl) ?_
          refine lv_aload_n X.1 X.2.1 d_law_157 rfl (lv_at hl 3 rfl) ?_
          refine lv_iload_n X.1 X.2.1 d_law_158 rfl (lv_at hl 0 rfl) ?_
          refine z_iconst X d_law_159 ?_
          refine z_iadd (r := ((i:Int) + 1)) X d_law_160 rfl ?_
          refine z_sld X hX hbl hbA hw.2.2.1 (i + 1) (by omega) (by omega) (by omega) hz1 d_law_161 ?_
          refine lv_aload_n X.1 X.2.1 d_law_162 rfl (lv_at hl 3 rfl) ?_
          refine lv_iload_n X.1 X.2.1 d_law_163 rfl (lv_at hl 0 rfl) ?_
          refine z_iconst X d_law_164 ?_
          refine z_iadd (r := ((i:Int) + 2)) X d_law_165 rfl ?_
          refine z_sld X hX hbl hbA hw.2.2.1 (i + 2) (by omega) (by omega) (by omega) hz2 d_law_166 ?_
          refine lv_aload_n X.1 X.2.1 d_law_167 rfl (lv_at hl 3 rfl) ?_
          refine lv_iload_n X.1 X.2.1 d_law_168 rfl (lv_at hl 0 rfl) ?_
          refine z_iconst X d_law_169 ?_
          refine z_iadd (r := ((i:Int) + 3)) X d_law_170 rfl ?_
          refine z_sld X hX hbl hbA hw.2.2.1 (i + 3) (by omega) (by omega) (by omega) hz3 d_law_171 ?_
          refine lv_i2l X.1 X.2.1 d_law_172 rfl ?_
          refine z_bipush X d_law_173 (by decide) ?_
          refine lv_lshl X.1 X.2.1 d_law_175 rfl ?_
          refine lv_aload_n X.1 X.2.1 d_law_176 rfl (lv_at hl 3 rfl) ?_
          refine lv_iload_n X.1 X.2.1 d_law_177 rfl (lv_at hl 0 rfl) ?_
          refine z_iconst X d_law_178 ?_
          refine z_iadd (r := ((i:Int) + 4)) X d_law_179 rfl ?_
          refine z_sld X hX hbl hbA hw.2.2.1 (i + 4) (by omega) (by omega) (by omega) hz4 d_law_180 ?_
          refine lv_i2l X.1 X.2.1 d_law_181 rfl ?_
          refine lv_ldc2 X.1 X.2.1 X.2.2.2.1 (X.2.2.2.2.1 _ m_lc_law_23) d_law_182 ?_
          refine lv_land X.1 X.2.1 d_law_185 ?_
          refine lv_lor X.1 X.2.1 d_law_186 ?_
          refine z_asl (z := v0) hv0.symm ?_
          refine lv_aload_n X.1 X.2.1 d_law_187 rfl (lv_at hl 3 rfl) ?_
          refine lv_iload_n X.1 X.2.1 d_law_188 rfl (lv_at hl 0 rfl) ?_
          refine z_iconst X d_law_189 ?_
          refine z_iadd (r := ((i:Int) + 5)) X d_law_190 rfl ?_
          refine z_sld X hX hbl hbA hw.2.2.1 (i + 5) (by omega) (by omega) (by omega) hz5 d_law_191 ?_
          refine z_afterI (w2 := fun u => ((w_Ed h cA gA gK u.1 (u.2.1:Int) ((u.2.1 + u.2.2.1 : Nat):Int) u.2.2.2.1 u.2.2.2.2.1 u.2.2.2.2.2.1 u.2.2.2.2.2.2.1 (u.2.2.2.2.2.2.2.1:Int) ((u.2.2.2.2.2.2.2.1 + u.2.2.2.2.2.2.2.2.1 : Nat):Int) u.2.2.2.2.2.2.2.2.2.2.1 u.2.2.2.2.2.2.2.2.2.2.2.1 (ed + 1) u.2.2.2.2.2.2.2.2.2.2.2.2.1 u.2.2.2.2.2.2.2.2.2.2.2.2.2.1 u.2.2.2.2.2.2.2.2.2.2.2.2.2.2) ++ (w_Mo k cA mA mK mT (n:Int) (T:Int) mB mZ mO mL fa fl oT mQ oF oS rd an ed tS tK tL))) (wr := [(k 0, .inr (4, [.ref (k 1), .ref (k 2), .ref (k 3), .int (iI (n:Int)), .int (iI (T:Int)), .ref (k 4), .ref (k 5), .ref (k 6), .ref (k 7), .int (iI fa), .int (iI fl), .int (iI oT), .ref (k 8), .int (iI oF), .int (iI oS), .int (iI rd), .int (iI an), .int (iI ed), .int (iI tS), .int (iI tK), .int (iI tL)])), (k 1, .inl (cA 1, 200, .inl (zf mA))), (k 2, .inl (cA 1, 20, .inl (zf mK))), (k 3, .inl (cA 1, 400, .inl (zf mT))), (k 4, .inl (cA 1, 400, .inl (zf mB))), (k 5, .inl (cA 1, 400, .inl (zf mZ))), (k 6, .inl (cA 1, 400, .inl (zf mO))), (k 7, .inl (cA 1, 400, .inl (zf mL))), (k 8, .inl (cA 1, 400, .inl (zf mQ)))]) hw (z_runV (rest := []) X hw k_Ed v_law_25 [.int (iI (pl:Int)), .int (iI (po:Int)), .long v0, .int (iI (pm:Int))] (c_Ed_edit_good l D cA h _ a kt t n cn gA gK row P S L0 K yl d cl g rd an ed sz lk kd hI t2 n2 pl po pm v0 stop (by omega) ho3 (by omega) hn2 (by omega) ht2 hSt) 0 rfl [0, 1, 2, 3, 4, 5, 6, 7, 8, 9, 10] rfl rfl rfl rfl hl.1 rfl (Nat.le_of_ble_eq_true rfl) ⟨rfl, rfl, Nat.le_of_ble_eq_true rfl, Nat.le_of_ble_eq_true rfl⟩ ⟨Nat.le_of_ble_eq_true rfl, Nat.le_of_ble_eq_true rfl⟩ d_law_192) [0, 1, 2, 3, 4, 5, 6, 7, 8, 9, 10] [11, 12, 13, 14, 15, 16, 17, 18, 19] [9, 10, 11, 12, 13, 14, 15, 16, 17, 18, 19, 0, 1, 2, 3, 4, 5, 6, 7, 8] rfl rfl rfl (by decide) rfl (fun _ => rfl) (fun _ => rfl) (fun z_192 u_192 H locs hu_192 hw => ?_)
          obtain ⟨row2, yl2, d2, p2, s2, l2, k2, cl2, g2, cn2, rd2, an2, sz2, lk2, kd2⟩ := u_192
          obtain ⟨he1, hI2, hE2⟩ := hu_192
          dsimp only at he1 hI2 hE2 hw
          subst he1
          refine lv_aload_n X.1 X.2.1 d_law_195 rfl (lv_at hl 1 rfl) ?_
          refine lv_aload_n X.1 X.2.1 d_law_196 rfl (lv_at hl 3 rfl) ?_
          refine lv_iload_n X.1 X.2.1 d_law_197 rfl (lv_at hl 0 rfl) ?_
          refine z_iconst X d_law_198 ?_
          refine z_iadd (r := ((i:Int) + 1)) X d_law_199 rfl ?_
          refine z_sld X hX hbl hbA hw.2.2.1 (i + 1) (by omega) (by omega) (by omega) hz1 d_law_200 ?_
          refine lv_aload_n X.1 X.2.1 d_law_201 rfl (lv_at hl 3 rfl) ?_
          refine lv_iload_n X.1 X.2.1 d_law_202 rfl (lv_at hl 0 rfl) ?_
          refine z_iconst X d_law_203 ?_
          refine z_iadd (r := ((i:Int) + 2)) X d_law_204 rfl ?_
          refine z_sld X hX hbl hbA hw.2.2.1 (i + 2) (by omega) (by omega) (by omega) hz2 d_law_205 ?_
          refine lv_aload_n X.1 X.2.1 d_law_206 rfl (lv_at hl 3 rfl) ?_
          refine lv_iload_n X.1 X.2.1 d_law_207 rfl (lv_at hl 0 rfl) ?_
          refine z_iconst X d_law_208 ?_
          refine z_iadd (r := ((i:Int) + 3)) X d_law_209 rfl ?_
          refine z_sld X hX hbl hbA hw.2.2.1 (i + 3) (by omega) (by omega) (by omega) hz3 d_law_210 ?_
          refine lv_i2l X.1 X.2.1 d_law_211 rfl ?_
          refine z_bipush X d_law_212 (by decide) ?_
          refine lv_lshl X.1 X.2.1 d_law_214 rfl ?_
          refine lv_aload_n X.1 X.2.1 d_law_215 rfl (lv_at hl 3 rfl) ?_
          refine lv_iload_n X.1 X.2.1 d_law_216 rfl (lv_at hl 0 rfl) ?_
          refine z_iconst X d_law_217 ?_
          refine z_iadd (r := ((i:Int) + 4)) X d_law_218 rfl ?_
          refine z_sld X hX hbl hbA hw.2.2.1 (i + 4) (by omega) (by omega) (by omega) hz4 d_law_219 ?_
          refine lv_i2l X.1 X.2.1 d_law_220 rfl ?_
          refine lv_ldc2 X.1 X.2.1 X.2.2.2.1 (X.2.2.2.2.1 _ m_lc_law_23) d_law_221 ?_
          refine lv_land X.1 X.2.1 d_law_224 ?_
          refine lv_lor X.1 X.2.1 d_law_225 ?_
          refine z_asl (z := v0) hv0.symm ?_
          refine lv_aload_n X.1 X.2.1 d_law_226 rfl (lv_at hl 3 rfl) ?_
          refine lv_iload_n X.1 X.2.1 d_law_227 rfl (lv_at hl 0 rfl) ?_
          refine z_iconst X d_law_228 ?_
          refine z_iadd (r := ((i:Int) + 5)) X d_law_229 rfl ?_
          refine z_sld X hX hbl hbA hw.2.2.1 (i + 5) (by omega) (by omega) (by omega) hz5 d_law_230 ?_
          refine z_afterI (w2 := fun u => ((w_Ed h cA gA gK row2 (yl2:Int) ((yl2 + d2 : Nat):Int) p2 s2 l2 k2 (cl2:Int) ((cl2 + g2 : Nat):Int) z_192 an2 (ed + 1) sz2 lk2 kd2) ++ (w_Mo k cA mA mK u.2.2.1 (n2:Int) (u.2.1:Int) u.2.2.2.1 u.2.2.2.2.1 u.2.2.2.2.2.1 u.2.2.2.2.2.2.1 u.2.2.2.2.2.2.2.1 u.2.2.2.2.2.2.2.2.1 (T:Int) u.2.2.2.2.2.2.2.2.2.1 fa (n:Int) u.2.2.2.2.2.2.2.2.2.2.1 u.2.2.2.2.2.2.2.2.2.2.2.1 (ed + 1) u.2.2.2.2.2.2.2.2.2.2.2.2.1 u.2.2.2.2.2.2.2.2.2.2.2.2.2.1 u.2.2.2.2.2.2.2.2.2.2.2.2.2.2))) (wr := [(h 0, .inr (3, [.ref (h 1), .ref (h 4), .ref (h 6), .int (iI z_192), .int (iI an2), .int (iI (ed + 1)), .int (iI sz2), .int (iI lk2), .int (iI kd2)])), (h 1, .inr (0, [.ref (h 2), .ref (h 3)])), (h 2, .inl (cA 0, 200, .inl (zf gA))), (h 3, .inl (cA 0, 20, .inl (zf gK))), (h 4, .inr (1, [.ref (h 5), .int (iI (yl2:Int)), .int (iI ((yl2 + d2 : Nat):Int))])), (h 5, .inl (cA 0, 400, .inl (zf row2))), (h 6, .inr (2, [.ref (h 7), .ref (h 8), .ref (h 9), .ref (h 10), .int (iI (cl2:Int)), .int (iI ((cl2 + g2 : Nat):Int))])), (h 7, .inl (cA 1, 401, .inl (zf p2))), (h 8, .inl (cA 2, 401, .inl (zf s2))), (h 9, .inl (cA 2, 401, .inl (zf l2))), (h 10, .inl (cA 0, 401, .inl (zf k2)))]) hw (z_runV (rest := [.int (iI z_192)]) X hw k_Mo v_law_29 [.int (iI (pl:Int)), .int (iI (po:Int)), .long v0, .int (iI (pm:Int))] (c_Mo_edit_good l D cA k _ a kt t n cn T mA mK mT mB mZ mO mL mQ fa fl oT oF oS rd an ed tS tK tL hM t2 n2 pl po pm v0 stop (by omega) ho3 (by omega) hn2 (by omega) ht2 hSt) 11 rfl [11, 12, 13, 14, 15, 16, 17, 18, 19] rfl rfl rfl rfl hl.1 rfl (Nat.le_of_ble_eq_true rfl) ⟨rfl, rfl, Nat.le_of_ble_eq_true rfl, Nat.le_of_ble_eq_true rfl⟩ ⟨Nat.le_of_ble_eq_true rfl, Nat.le_of_ble_eq_true rfl⟩ d_law_231) [11, 12, 13, 14, 15, 16, 17, 18, 19] [0, 1, 2, 3, 4, 5, 6, 7, 8, 9, 10] [0, 1, 2, 3, 4, 5, 6, 7, 8, 9, 10, 11, 12, 13, 14, 15, 16, 17, 18, 19] rfl rfl rfl (by decide) rfl (fun _ => rfl) (fun _ => rfl) (fun z_231 u_231 H locs hu_231 hw => ?_)
          obtain ⟨cn3, T3, m3, b3, y3, o3, l3, fa3, fl3, q3, rd3, an3, ts3, tk3, tl3⟩ := u_231
          obtain ⟨he3, hM3, hE3⟩ := hu_231
          dsimp only at he3 hM3 hE3 hw
          subst he3
          obtain ⟨e4, e5⟩ := Prod.mk.inj (EdR_uniq hE2 hE3)
          subst e4
          subst e5
          have e6 := IsC_uniq hI2.2.2.2.2.2.2.2.2.1 hM3.2.2.2.2.1
          subst e6
          refine lv_icmp_eq (tgt := 354) X.1 X.2.1 d_law_234 (by decide) (fun _ => ?_) (fun c => absurd rfl c)
          refine z_iinc (lv' := [(3, .int (iI ((i + 6 : Nat):Int))), (2, .ref (k 0)), (1, .ref (h 0)), (0, .ref b)]) (r := ((i + 6 : Nat):Int)) (k := 0) X d_law_354 hl rfl (by omega) (by decide) rfl (fun ls hl => ?_)
          refine z_goto (tgt := 18) X d_law_357 (by decide) ?_
          exact ih (i + 6) h k a kt t2 n2 cn2 T3 gA gK row2 p2 s2 l2 k2 yl2 d2 cl2 g2 z_192 an2 (ed + 1) sz2 lk2 kd2 mA mK m3 b3 y3 o3 l3 q3 fa3 fl3 (T:Int) fa (n:Int) ts3 tk3 tl3 (by omega) (by omega) hI2 hM3 H locs ls hw (lv_sub hl [0, 1, 2, 3] rfl)
        · refine lv_aload_n X.1 X.2.1 d_law_156 rfl (lv_at hl 2 rfl) ?_
          refine lv_aload_n X.1 X.2.1 d_law_157 rfl (lv_at hl 3 rfl) ?_
          refine lv_iload_n X.1 X.2.1 d_law_158 rfl (lv_at hl 0 rfl) ?_
          refine z_iconst X d_law_159 ?_
          refine z_iadd (r := ((i:Int) + 1)) X d_law_160 rfl ?_
          refine z_sld X hX hbl hbA hw.2.2.1 (i + 1) (by omega) (by omega) (by omega) hz1 d_law_161 ?_
          refine lv_aload_n X.1 X.2.1 d_law_162 rfl (lv_at hl 3 rfl) ?_
          refine lv_iload_n X.1 X.2.1 d_law_163 rfl (lv_at hl 0 rfl) ?_
          refine z_iconst X d_law_164 ?_
          refine z_iadd (r := ((i:Int) + 2)) X d_law_165 rfl ?_
          refine z_sld X hX hbl hbA hw.2.2.1 (i + 2) (by omega) (by omega) (by omega) hz2 d_law_166 ?_
          refine lv_aload_n X.1 X.2.1 d_law_167 rfl (lv_at hl 3 rfl) ?_
          refine lv_iload_n X.1 X.2.1 d_law_168 rfl (lv_at hl 0 rfl) ?_
          refine z_iconst X d_law_169 ?_
          refine z_iadd (r := ((i:Int) + 3)) X d_law_170 rfl ?_
          refine z_sld X hX hbl hbA hw.2.2.1 (i + 3) (by omega) (by omega) (by omega) hz3 d_law_171 ?_
          refine lv_i2l X.1 X.2.1 d_law_172 rfl ?_
          refine z_bipush X d_law_173 (by decide) ?_
          refine lv_lshl X.1 X.2.1 d_law_175 rfl ?_
          refine lv_aload_n X.1 X.2.1 d_law_176 rfl (lv_at hl 3 rfl) ?_
          refine lv_iload_n X.1 X.2.1 d_law_177 rfl (lv_at hl 0 rfl) ?_
          refine z_iconst X d_law_178 ?_
          refine z_iadd (r := ((i:Int) + 4)) X d_law_179 rfl ?_
          refine z_sld X hX hbl hbA hw.2.2.1 (i + 4) (by omega) (by omega) (by omega) hz4 d_law_180 ?_
          refine lv_i2l X.1 X.2.1 d_law_181 rfl ?_
          refine lv_ldc2 X.1 X.2.1 X.2.2.2.1 (X.2.2.2.2.1 _ m_lc_law_23) d_law_182 ?_
          refine lv_land X.1 X.2.1 d_law_185 ?_
          refine lv_lor X.1 X.2.1 d_law_186 ?_
          refine z_asl (z := v0) hv0.symm ?_
          refine lv_aload_n X.1 X.2.1 d_law_187 rfl (lv_at hl 3 rfl) ?_
          refine lv_iload_n X.1 X.2.1 d_law_188 rfl (lv_at hl 0 rfl) ?_
          refine z_iconst X d_law_189 ?_
          refine z_iadd (r := ((i:Int) + 5)) X d_law_190 rfl ?_
          refine z_sld X hX hbl hbA hw.2.2.1 (i + 5) (by omega) (by omega) (by omega) hz5 d_law_191 ?_
          refine z_callR (rest := []) X hw k_Ed v_law_25 [.int (iI z1), .int (iI z2), .long v0, .int (iI z5)] (c_Ed_edit_bad l D cA h _ gA gK row P S L0 K yl d cl g rd an ed sz lk kd n z1 z2 z5 v0 hr1 hr2 hr5 hyd hnd hok) 0 rfl [0, 1, 2, 3, 4, 5, 6, 7, 8, 9, 10] rfl rfl rfl rfl hl.1 rfl (Nat.le_of_ble_eq_true rfl) ⟨rfl, rfl, Nat.le_of_ble_eq_true rfl, Nat.le_of_ble_eq_true rfl⟩ ⟨Nat.le_of_ble_eq_true rfl, Nat.le_of_ble_eq_true rfl⟩ d_law_192 (fun z_192 hz_192 => ?_)
          refine lv_aload_n X.1 X.2.1 d_law_195 rfl (lv_at hl 1 rfl) ?_
          refine lv_aload_n X.1 X.2.1 d_law_196 rfl (lv_at hl 3 rfl) ?_
          refine lv_iload_n X.1 X.2.1 d_law_197 rfl (lv_at hl 0 rfl) ?_
          refine z_iconst X d_law_198 ?_
          refine z_iadd (r := ((i:Int) + 1)) X d_law_199 rfl ?_
          refine z_sld X hX hbl hbA hw.2.2.1 (i + 1) (by omega) (by omega) (by omega) hz1 d_law_200 ?_
          refine lv_aload_n X.1 X.2.1 d_law_201 rfl (lv_at hl 3 rfl) ?_
          refine lv_iload_n X.1 X.2.1 d_law_202 rfl (lv_at hl 0 rfl) ?_
          refine z_iconst X d_law_203 ?_
          refine z_iadd (r := ((i:Int) + 2)) X d_law_204 rfl ?_
          refine z_sld X hX hbl hbA hw.2.2.1 (i + 2) (by omega) (by omega) (by omega) hz2 d_law_205 ?_
          refine lv_aload_n X.1 X.2.1 d_law_206 rfl (lv_at hl 3 rfl) ?_
          refine lv_iload_n X.1 X.2.1 d_law_207 rfl (lv_at hl 0 rfl) ?_
          refine z_iconst X d_law_208 ?_
          refine z_iadd (r := ((i:Int) + 3)) X d_law_209 rfl ?_
          refine z_sld X hX hbl hbA hw.2.2.1 (i + 3) (by omega) (by omega) (by omega) hz3 d_law_210 ?_
          refine lv_i2l X.1 X.2.1 d_law_211 rfl ?_
          refine z_bipush X d_law_212 (by decide) ?_
          refine lv_lshl X.1 X.2.1 d_law_214 rfl ?_
          refine lv_aload_n X.1 X.2.1 d_law_215 rfl (lv_at hl 3 rfl) ?_
          refine lv_iload_n X.1 X.2.1 d_law_216 rfl (lv_at hl 0 rfl) ?_
          refine z_iconst X d_law_217 ?_
          refine z_iadd (r := ((i:Int) + 4)) X d_law_218 rfl ?_
          refine z_sld X hX hbl hbA hw.2.2.1 (i + 4) (by omega) (by omega) (by omega) hz4 d_law_219 ?_
          refine lv_i2l X.1 X.2.1 d_law_220 rfl ?_
          refine lv_ldc2 X.1 X.2.1 X.2.2.2.1 (X.2.2.2.2.1 _ m_lc_law_23) d_law_221 ?_
          refine lv_land X.1 X.2.1 d_law_224 ?_
          refine lv_lor X.1 X.2.1 d_law_225 ?_
          refine z_asl (z := v0) hv0.symm ?_
          refine lv_aload_n X.1 X.2.1 d_law_226 rfl (lv_at hl 3 rfl) ?_
          refine lv_iload_n X.1 X.2.1 d_law_227 rfl (lv_at hl 0 rfl) ?_
          refine z_iconst X d_law_228 ?_
          refine z_iadd (r := ((i:Int) + 5)) X d_law_229 rfl ?_
          refine z_sld X hX hbl hbA hw.2.2.1 (i + 5) (by omega) (by omega) (by omega) hz5 d_law_230 ?_
          refine z_callR (rest := [.int (iI z_192)]) X hw k_Mo v_law_29 [.int (iI z1), .int (iI z2), .long v0, .int (iI z5)] (c_Mo_edit_bad l D cA k _ mA mK mT mB mZ mO mL mQ (T:Int) fa fl oT oF oS rd an ed tS tK tL n z1 z2 z5 v0 hr1 hr2 hr5 hn4 hok) 11 rfl [11, 12, 13, 14, 15, 16, 17, 18, 19] rfl rfl rfl rfl hl.1 rfl (Nat.le_of_ble_eq_true rfl) ⟨rfl, rfl, Nat.le_of_ble_eq_true rfl, Nat.le_of_ble_eq_true rfl⟩ ⟨Nat.le_of_ble_eq_true rfl, Nat.le_of_ble_eq_true rfl⟩ d_law_231 (fun z_231 hz_231 => ?_)
          subst hz_192
          subst hz_231
          refine lv_icmp_eq (tgt := 354) X.1 X.2.1 d_law_234 (by decide) (fun _ => ?_) (fun c => absurd rfl c)
          refine z_iinc (lv' := [(3, .int (iI ((i + 6 : Nat):Int))), (2, .ref (k 0)), (1, .ref (h 0)), (0, .ref b)]) (r := ((i + 6 : Nat):Int)) (k := 0) X d_law_354 hl rfl (by omega) (by decide) rfl (fun ls hl => ?_)
          refine z_goto (tgt := 18) X d_law_357 (by decide) ?_
          exact ih (i + 6) h k a kt t n cn T gA gK row P S L0 K yl d cl g rd an ed sz lk kd mA mK mT mB mZ mO mL mQ fa fl oT oF oS tS tK tL (by omega) (by omega) hI hM H locs ls hw (lv_sub hl [0, 1, 2, 3] rfl)
      by_cases w_3 : (j:Int) = 3
      · refine z_tin (tgt := 239) X d_law_33 (by omega) 3 w_3 (by decide) rfl (by decide) ?_
        refine lv_aload_n X.1 X.2.1 d_law_239 rfl (lv_at hl 2 rfl) ?_
        refine lv_aload_n X.1 X.2.1 d_law_240 rfl (lv_at hl 3 rfl) ?_
        refine lv_iload_n X.1 X.2.1 d_law_241 rfl (lv_at hl 0 rfl) ?_
        refine z_iconst X d_law_242 ?_
        refine z_iadd (r := ((i:Int) + 1)) X d_law_243 rfl ?_
        refine z_sld X hX hbl hbA hw.2.2.1 (i + 1) (by omega) (by omega) (by omega) hz1 d_law_244 ?_
        refine lv_aload_n X.1 X.2.1 d_law_245 rfl (lv_at hl 3 rfl) ?_
        refine lv_iload_n X.1 X.2.1 d_law_246 rfl (lv_at hl 0 rfl) ?_
        refine z_iconst X d_law_247 ?_
        refine z_iadd (r := ((i:Int) + 2)) X d_law_248 rfl ?_
        refine z_sld X hX hbl hbA hw.2.2.1 (i + 2) (by omega) (by omega) (by omega) hz2 d_law_249 ?_
        refine z_callR (rest := []) X hw k_Ed v_law_30 [.int (iI z1), .int (iI z2)] (c_Ed_token l D cA h _ a kt t n cn gA gK row P S L0 K yl d cl g rd an ed sz lk kd hI T hM.2.2.2.2.2.1 z1 z2 hr1 hr2) 0 rfl [0, 1, 2, 3, 4, 5, 6, 7, 8, 9, 10] rfl rfl rfl rfl hl.1 rfl (Nat.le_of_ble_eq_true rfl) ⟨rfl, rfl, Nat.le_of_ble_eq_true rfl, Nat.le_of_ble_eq_true rfl⟩ ⟨Nat.le_of_ble_eq_true rfl, Nat.le_of_ble_eq_true rfl⟩ d_law_250 (fun z_250 hz_250 => ?_)
        refine lv_aload_n X.1 X.2.1 d_law_253 rfl (lv_at hl 1 rfl) ?_
        refine lv_aload_n X.1 X.2.1 d_law_254 rfl (lv_at hl 3 rfl) ?_
        refine lv_iload_n X.1 X.2.1 d_law_255 rfl (lv_at hl 0 rfl) ?_
        refine z_iconst X d_law_256 ?_
        refine z_iadd (r := ((i:Int) + 1)) X d_law_257 rfl ?_
        refine z_sld X hX hbl hbA hw.2.2.1 (i + 1) (by omega) (by omega) (by omega) hz1 d_law_258 ?_
        refine lv_aload_n X.1 X.2.1 d_law_259 rfl (lv_at hl 3 rfl) ?_
        refine lv_iload_n X.1 X.2.1 d_law_260 rfl (lv_at hl 0 rfl) ?_
        refine z_iconst X d_law_261 ?_
        refine z_iadd (r := ((i:Int) + 2)) X d_law_262 rfl ?_
        refine z_sld X hX hbl hbA hw.2.2.1 (i + 2) (by omega) (by omega) (by omega) hz2 d_law_263 ?_
        refine z_callR (rest := [.int (iI z_250)]) X hw k_Mo v_law_34 [.int (iI z1), .int (iI z2)] (c_Mo_token l D cA k _ a kt t n cn T mA mK mT mB mZ mO mL mQ fa fl oT oF oS rd an ed tS tK tL hM z1 z2 hr1 hr2) 11 rfl [11, 12, 13, 14, 15, 16, 17, 18, 19] rfl rfl rfl rfl hl.1 rfl (Nat.le_of_ble_eq_true rfl) ⟨rfl, rfl, Nat.le_of_ble_eq_true rfl, Nat.le_of_ble_eq_true rfl⟩ ⟨Nat.le_of_ble_eq_true rfl, Nat.le_of_ble_eq_true rfl⟩ d_law_264 (fun z_264 hz_264 => ?_)
        subst hz_250
        subst hz_264
        refine lv_icmp_eq (tgt := 354) X.1 X.2.1 d_law_267 (by decide) (fun _ => ?_) (fun c => absurd rfl c)
        refine z_iinc (lv' := [(3, .int (iI ((i + 6 : Nat):Int))), (2, .ref (k 0)), (1, .ref (h 0)), (0, .ref b)]) (r := ((i + 6 : Nat):Int)) (k := 0) X d_law_354 hl rfl (by omega) (by decide) rfl (fun ls hl => ?_)
        refine z_goto (tgt := 18) X d_law_357 (by decide) ?_
        exact ih (i + 6) h k a kt t n cn T gA gK row P S L0 K yl d cl g rd an ed sz lk kd mA mK mT mB mZ mO mL mQ fa fl oT oF oS tS tK tL (by omega) (by omega) hI hM H locs ls hw (lv_sub hl [0, 1, 2, 3] rfl)
      by_cases w_4 : (j:Int) = 4
      · refine z_tin (tgt := 272) X d_law_33 (by omega) 4 w_4 (by decide) rfl (by decide) ?_
        refine lv_aload_n X.1 X.2.1 d_law_272 rfl (lv_at hl 2 rfl) ?_
        refine lv_aload_n X.1 X.2.1 d_law_273 rfl (lv_at hl 3 rfl) ?_
        refine lv_iload_n X.1 X.2.1 d_law_274 rfl (lv_at hl 0 rfl) ?_
        refine z_iconst X d_law_275 ?_
        refine z_iadd (r := ((i:Int) + 1)) X d_law_276 rfl ?_
        refine z_sld X hX hbl hbA hw.2.2.1 (i + 1) (by omega) (by omega) (by omega) hz1 d_law_277 ?_
        refine z_callR (rest := []) X hw k_Ed v_law_35 [.int (iI z1)] (c_Ed_tokenAt l D cA h _ a kt t n cn gA gK row P S L0 K yl d cl g rd an ed sz lk kd hI T hM.2.2.2.2.2.1 z1 hr1) 0 rfl [0, 1, 2, 3, 4, 5, 6, 7, 8, 9, 10] rfl rfl rfl rfl hl.1 rfl (Nat.le_of_ble_eq_true rfl) ⟨rfl, rfl, Nat.le_of_ble_eq_true rfl, Nat.le_of_ble_eq_true rfl⟩ ⟨Nat.le_of_ble_eq_true rfl, Nat.le_of_ble_eq_true rfl⟩ d_law_278 (fun z_278 hz_278 => ?_)
        refine lv_aload_n X.1 X.2.1 d_law_281 rfl (lv_at hl 1 rfl) ?_
        refine lv_aload_n X.1 X.2.1 d_law_282 rfl (lv_at hl 3 rfl) ?_
        refine lv_iload_n X.1 X.2.1 d_law_283 rfl (lv_at hl 0 rfl) ?_
        refine z_iconst X d_law_284 ?_
        refine z_iadd (r := ((i:Int) + 1)) X d_law_285 rfl ?_
        refine z_sld X hX hbl hbA hw.2.2.1 (i + 1) (by omega) (by omega) (by omega) hz1 d_law_286 ?_
        refine z_callR (rest := [.int (iI z_278)]) X hw k_Mo v_law_39 [.int (iI z1)] (c_Mo_tokenAt l D cA k _ a kt t n cn T mA mK mT mB mZ mO mL mQ fa fl oT oF oS rd an ed tS tK tL hM z1 hr1) 11 rfl [11, 12, 13, 14, 15, 16, 17, 18, 19] rfl rfl rfl rfl hl.1 rfl (Nat.le_of_ble_eq_true rfl) ⟨rfl, rfl, Nat.le_of_ble_eq_true rfl, Nat.le_of_ble_eq_true rfl⟩ ⟨Nat.le_of_ble_eq_true rfl, Nat.le_of_ble_eq_true rfl⟩ d_law_287 (fun z_287 hz_287 => ?_)
        have heq := tA_uniq hz_278 hz_287
        subst heq
        refine lv_icmp_eq (tgt := 354) X.1 X.2.1 d_law_290 (by decide) (fun _ => ?_) (fun c => absurd rfl c)
        refine z_iinc (lv' := [(3, .int (iI ((i + 6 : Nat):Int))), (2, .ref (k 0)), (1, .ref (h 0)), (0, .ref b)]) (r := ((i + 6 : Nat):Int)) (k := 0) X d_law_354 hl rfl (by omega) (by decide) rfl (fun ls hl => ?_)
        refine z_goto (tgt := 18) X d_law_357 (by decide) ?_
        exact ih (i + 6) h k a kt t n cn T gA gK row P S L0 K yl d cl g rd an ed sz lk kd mA mK mT mB mZ mO mL mQ fa fl oT oF oS tS tK tL (by omega) (by omega) hI hM H locs ls hw (lv_sub hl [0, 1, 2, 3] rfl)
      by_cases w_5 : (j:Int) = 5
      · refine z_tin (tgt := 295) X d_law_33 (by omega) 5 w_5 (by decide) rfl (by decide) ?_
        refine lv_aload_n X.1 X.2.1 d_law_295 rfl (lv_at hl 2 rfl) ?_
        refine lv_aload_n X.1 X.2.1 d_law_296 rfl (lv_at hl 3 rfl) ?_
        refine lv_iload_n X.1 X.2.1 d_law_297 rfl (lv_at hl 0 rfl) ?_
        refine z_iconst X d_law_298 ?_
        refine z_iadd (r := ((i:Int) + 1)) X d_law_299 rfl ?_
        refine z_sld X hX hbl hbA hw.2.2.1 (i + 1) (by omega) (by omega) (by omega) hz1 d_law_300 ?_
        refine z_callR (rest := []) X hw k_Ed v_law_40 [.int (iI z1)] (c_Ed_symbol l D cA h _ a kt t n cn gA gK row P S L0 K yl d cl g rd an ed sz lk kd hI z1 hr1) 0 rfl [0, 1, 2, 3, 4, 5, 6, 7, 8, 9, 10] rfl rfl rfl rfl hl.1 rfl (Nat.le_of_ble_eq_true rfl) ⟨rfl, rfl, Nat.le_of_ble_eq_true rfl, Nat.le_of_ble_eq_true rfl⟩ ⟨Nat.le_of_ble_eq_true rfl, Nat.le_of_ble_eq_true rfl⟩ d_law_301 (fun z_301 hz_301 => ?_)
        refine lv_aload_n X.1 X.2.1 d_law_304 rfl (lv_at hl 1 rfl) ?_
        refine lv_aload_n X.1 X.2.1 d_law_305 rfl (lv_at hl 3 rfl) ?_
        refine lv_iload_n X.1 X.2.1 d_law_306 rfl (lv_at hl 0 rfl) ?_
        refine z_iconst X d_law_307 ?_
        refine z_iadd (r := ((i:Int) + 1)) X d_law_308 rfl ?_
        refine z_sld X hX hbl hbA hw.2.2.1 (i + 1) (by omega) (by omega) (by omega) hz1 d_law_309 ?_
        refine z_callR (rest := [.int (iI z_301)]) X hw k_Mo v_law_43 [.int (iI z1)] (c_Mo_symbol l D cA k _ a kt t n cn T mA mK mT mB mZ mO mL mQ fa fl oT oF oS rd an ed tS tK tL hM z1 hr1) 11 rfl [11, 12, 13, 14, 15, 16, 17, 18, 19] rfl rfl rfl rfl hl.1 rfl (Nat.le_of_ble_eq_true rfl) ⟨rfl, rfl, Nat.le_of_ble_eq_true rfl, Nat.le_of_ble_eq_true rfl⟩ ⟨Nat.le_of_ble_eq_true rfl, Nat.le_of_ble_eq_true rfl⟩ d_law_310 (fun z_310 hz_310 => ?_)
        subst hz_301
        subst hz_310
        refine lv_icmp_eq (tgt := 354) X.1 X.2.1 d_law_313 (by decide) (fun _ => ?_) (fun c => absurd rfl c)
        refine z_iinc (lv' := [(3, .int (iI ((i + 6 : Nat):Int))), (2, .ref (k 0)), (1, .ref (h 0)), (0, .ref b)]) (r := ((i + 6 : Nat):Int)) (k := 0) X d_law_354 hl rfl (by omega) (by decide) rfl (fun ls hl => ?_)
        refine z_goto (tgt := 18) X d_law_357 (by decide) ?_
        exact ih (i + 6) h k a kt t n cn T gA gK row P S L0 K yl d cl g rd an ed sz lk kd mA mK mT mB mZ mO mL mQ fa fl oT oF oS tS tK tL (by omega) (by omega) hI hM H locs ls hw (lv_sub hl [0, 1, 2, 3] rfl)
      by_cases w_6 : (j:Int) = 6
      · refine z_tin (tgt := 318) X d_law_33 (by omega) 6 w_6 (by decide) rfl (by decide) ?_
        refine lv_aload_n X.1 X.2.1 d_law_318 rfl (lv_at hl 2 rfl) ?_
        refine lv_aload_n X.1 X.2.1 d_law_319 rfl (lv_at hl 3 rfl) ?_
        refine lv_iload_n X.1 X.2.1 d_law_320 rfl (lv_at hl 0 rfl) ?_
        refine z_iconst X d_law_321 ?_
        refine z_iadd (r := ((i:Int) + 1)) X d_law_322 rfl ?_
        refine z_sld X hX hbl hbA hw.2.2.1 (i + 1) (by omega) (by omega) (by omega) hz1 d_law_323 ?_
        refine z_callR (rest := []) X hw k_Ed v_law_44 [.int (iI z1)] (c_Ed_count l D cA h _ a kt t n cn gA gK row P S L0 K yl d cl g rd an ed sz lk kd hI T hM.2.2.2.2.2.1 z1 hr1) 0 rfl [0, 1, 2, 3, 4, 5, 6, 7, 8, 9, 10] rfl rfl rfl rfl hl.1 rfl (Nat.le_of_ble_eq_true rfl) ⟨rfl, rfl, Nat.le_of_ble_eq_true rfl, Nat.le_of_ble_eq_true rfl⟩ ⟨Nat.le_of_ble_eq_true rfl, Nat.le_of_ble_eq_true rfl⟩ d_law_324 (fun z_324 hz_324 => ?_)
        refine lv_aload_n X.1 X.2.1 d_law_327 rfl (lv_at hl 1 rfl) ?_
        refine lv_aload_n X.1 X.2.1 d_law_328 rfl (lv_at hl 3 rfl) ?_
        refine lv_iload_n X.1 X.2.1 d_law_329 rfl (lv_at hl 0 rfl) ?_
        refine z_iconst X d_law_330 ?_
        refine z_iadd (r := ((i:Int) + 1)) X d_law_331 rfl ?_
        refine z_sld X hX hbl hbA hw.2.2.1 (i + 1) (by omega) (by omega) (by omega) hz1 d_law_332 ?_
        refine z_callR (rest := [.int (iI z_324)]) X hw k_Mo v_law_47 [.int (iI z1)] (c_Mo_count l D cA k _ a kt t n cn T mA mK mT mB mZ mO mL mQ fa fl oT oF oS rd an ed tS tK tL hM z1 hr1) 11 rfl [11, 12, 13, 14, 15, 16, 17, 18, 19] rfl rfl rfl rfl hl.1 rfl (Nat.le_of_ble_eq_true rfl) ⟨rfl, rfl, Nat.le_of_ble_eq_true rfl, Nat.le_of_ble_eq_true rfl⟩ ⟨Nat.le_of_ble_eq_true rfl, Nat.le_of_ble_eq_true rfl⟩ d_law_333 (fun z_333 hz_333 => ?_)
        subst hz_324
        subst hz_333
        refine lv_icmp_eq (tgt := 354) X.1 X.2.1 d_law_336 (by decide) (fun _ => ?_) (fun c => absurd rfl c)
        refine z_iinc (lv' := [(3, .int (iI ((i + 6 : Nat):Int))), (2, .ref (k 0)), (1, .ref (h 0)), (0, .ref b)]) (r := ((i + 6 : Nat):Int)) (k := 0) X d_law_354 hl rfl (by omega) (by decide) rfl (fun ls hl => ?_)
        refine z_goto (tgt := 18) X d_law_357 (by decide) ?_
        exact ih (i + 6) h k a kt t n cn T gA gK row P S L0 K yl d cl g rd an ed sz lk kd mA mK mT mB mZ mO mL mQ fa fl oT oF oS tS tK tL (by omega) (by omega) hI hM H locs ls hw (lv_sub hl [0, 1, 2, 3] rfl)
      by_cases w_7 : (j:Int) = 7
      · refine z_tin (tgt := 341) X d_law_33 (by omega) 7 w_7 (by decide) rfl (by decide) ?_
        refine lv_aload_n X.1 X.2.1 d_law_341 rfl (lv_at hl 2 rfl) ?_
        refine z_afterI (w2 := fun u => ((w_Ed h cA u.1 u.2 row 0 400 P S L0 K 0 401 0 0 0 sz lk kd) ++ (w_Mo k cA mA mK mT (n:Int) (T:Int) mB mZ mO mL fa fl oT mQ oF oS rd an ed tS tK tL))) (wr := [(k 0, .inr (4, [.ref (k 1), .ref (k 2), .ref (k 3), .int (iI (n:Int)), .int (iI (T:Int)), .ref (k 4), .ref (k 5), .ref (k 6), .ref (k 7), .int (iI fa), .int (iI fl), .int (iI oT), .ref (k 8), .int (iI oF), .int (iI oS), .int (iI rd), .int (iI an), .int (iI ed), .int (iI tS), .int (iI tK), .int (iI tL)])), (k 1, .inl (cA 1, 200, .inl (zf mA))), (k 2, .inl (cA 1, 20, .inl (zf mK))), (k 3, .inl (cA 1, 400, .inl (zf mT))), (k 4, .inl (cA 1, 400, .inl (zf mB))), (k 5, .inl (cA 1, 400, .inl (zf mZ))), (k 6, .inl (cA 1, 400, .inl (zf mO))), (k 7, .inl (cA 1, 400, .inl (zf mL))), (k 8, .inl (cA 1, 400, .inl (zf mQ)))]) hw (z_runV (rest := []) X hw k_Ed v_law_48 [] (c_Ed_clear l D cA h _ a kt t n cn gA gK row P S L0 K yl d cl g rd an ed sz lk kd hI T hM.2.2.2.2.2.1) 0 rfl [0, 1, 2, 3, 4, 5, 6, 7, 8, 9, 10] rfl rfl rfl rfl hl.1 rfl (Nat.le_of_ble_eq_true rfl) ⟨rfl, rfl, Nat.le_of_ble_eq_true rfl, Nat.le_of_ble_eq_true rfl⟩ ⟨Nat.le_of_ble_eq_true rfl, Nat.le_of_ble_eq_true rfl⟩ d_law_342) [0, 1, 2, 3, 4, 5, 6, 7, 8, 9, 10] [11, 12, 13, 14, 15, 16, 17, 18, 19] [9, 10, 11, 12, 13, 14, 15, 16, 17, 18, 19, 0, 1, 2, 3, 4, 5, 6, 7, 8] rfl rfl rfl (by decide) rfl (fun _ => rfl) (fun _ => rfl) (fun z_342 u_342 H locs hu_342 hw => ?_)
        refine lv_aload_n X.1 X.2.1 d_law_345 rfl (lv_at hl 1 rfl) ?_
        refine z_afterI (w2 := fun u => ((w_Ed h cA u_342.1 u_342.2 row 0 400 P S L0 K 0 401 0 0 0 sz lk kd) ++ (w_Mo k cA u.1 u.2 mT 0 0 mB mZ mO mL (-1) 0 oT mQ oF oS 0 0 0 tS tK tL))) (wr := [(h 0, .inr (3, [.ref (h 1), .ref (h 4), .ref (h 6), .int (iI 0), .int (iI 0), .int (iI 0), .int (iI sz), .int (iI lk), .int (iI kd)])), (h 1, .inr (0, [.ref (h 2), .ref (h 3)])), (h 2, .inl (cA 0, 200, .inl (zf u_342.1))), (h 3, .inl (cA 0, 20, .inl (zf u_342.2))), (h 4, .inr (1, [.ref (h 5), .int (iI 0), .int (iI 400)])), (h 5, .inl (cA 0, 400, .inl (zf row))), (h 6, .inr (2, [.ref (h 7), .ref (h 8), .ref (h 9), .ref (h 10), .int (iI 0), .int (iI 401)])), (h 7, .inl (cA 1, 401, .inl (zf P))), (h 8, .inl (cA 2, 401, .inl (zf S))), (h 9, .inl (cA 2, 401, .inl (zf L0))), (h 10, .inl (cA 0, 401, .inl (zf K)))]) hw (z_runV (rest := [.int (iI z_342)]) X hw k_Mo v_law_52 [] (c_Mo_clear l D cA k _ a kt t n cn T mA mK mT mB mZ mO mL mQ fa fl oT oF oS rd an ed tS tK tL hM) 11 rfl [11, 12, 13, 14, 15, 16, 17, 18, 19] rfl rfl rfl rfl hl.1 rfl (Nat.le_of_ble_eq_true rfl) ⟨rfl, rfl, Nat.le_of_ble_eq_true rfl, Nat.le_of_ble_eq_true rfl⟩ ⟨Nat.le_of_ble_eq_true rfl, Nat.le_of_ble_eq_true rfl⟩ d_law_346) [11, 12, 13, 14, 15, 16, 17, 18, 19] [0, 1, 2, 3, 4, 5, 6, 7, 8, 9, 10] [0, 1, 2, 3, 4, 5, 6, 7, 8, 9, 10, 11, 12, 13, 14, 15, 16, 17, 18, 19] rfl rfl rfl (by decide) rfl (fun _ => rfl) (fun _ => rfl) (fun z_346 u_346 H locs hu_346 hw => ?_)
        obtain ⟨he1, hA1, hK1⟩ := hu_342
        obtain ⟨he2, hA2, hK2⟩ := hu_346
        subst he1
        subst he2
        refine lv_icmp_eq (tgt := 354) X.1 X.2.1 d_law_349 (by decide) (fun _ => ?_) (fun c => absurd rfl c)
        refine z_iinc (lv' := [(3, .int (iI ((i + 6 : Nat):Int))), (2, .ref (k 0)), (1, .ref (h 0)), (0, .ref b)]) (r := ((i + 6 : Nat):Int)) (k := 0) X d_law_354 hl rfl (by omega) (by decide) rfl (fun ls hl => ?_)
        refine z_goto (tgt := 18) X d_law_357 (by decide) ?_
        exact ih (i + 6) h k (fun _ => -1) (fun _ => -1) (fun _ => 0) 0 0 0 u_342.1 u_342.2 row P S L0 K 0 400 0 401 0 0 0 sz lk kd u_346.1 u_346.2 mT mB mZ mO mL mQ (-1) 0 oT oF oS tS tK tL (by omega) (by omega) (CI_0 hA1 hK1) (MI_0 hA2 hK2) H locs ls hw (lv_sub hl [0, 1, 2, 3] rfl)
      refine z_tout (tgt := 354) X d_law_33 (by omega) (by omega) (by decide) ?_
      refine z_iinc (lv' := [(3, .int (iI ((i + 6 : Nat):Int))), (2, .ref (k 0)), (1, .ref (h 0)), (0, .ref b)]) (r := ((i + 6 : Nat):Int)) (k := 0) X d_law_354 hl rfl (by omega) (by decide) rfl (fun ls hl => ?_)
      refine z_goto (tgt := 18) X d_law_357 (by decide) ?_
      exact ih (i + 6) h k a kt t n cn T gA gK row P S L0 K yl d cl g rd an ed sz lk kd mA mK mT mB mZ mO mL mQ fa fl oT oF oS tS tK tL (by omega) (by omega) hI hM H locs ls hw (lv_sub hl [0, 1, 2, 3] rfl)
end
section
set_option maxHeartbeats 4000000 in
set_option maxRecDepth 100000 in
/-- THE LAW, from its entry -/
theorem whole_start {p : Program} {e : Env} {s : State} {m : MethodId} {below : List Frame} {meth : Method} {c : Code} (l : Launch) {b L : Nat} {xs : Nat → Int32} (hL : L ≤ 3072) (C0 : lw_At p s m meth c b L xs) : W p l e room_1 s m #[Value.ref b] below meth c s.heap [] 0 0 (lw_Z below #[Value.ref b] s) (entryFrame m ([Value.ref b] : List Value).toArray 4) := by
  obtain ⟨hx, hb, hr, hml, hown, hts, hX, hbl, hlocks, hgv⟩ := id C0
  have htg : ∀ w ∈ gW, w.before #[Value.ref b] s = true := fun w h => hts w (gW_in h)
  obtain ⟨c0, iS0, hKn0⟩ := u_known (C := R_Tb) (T := F_Tb) (N := 2) (n := 2) htg i_Tb (htg _ m_is_Tb)
  obtain ⟨c1, iS1, hKn1⟩ := u_known (C := R_Sy) (T := F_Sy) (N := 3) (n := 3) htg i_Sy (htg _ m_is_Sy)
  obtain ⟨c2, iS2, hKn2⟩ := u_known (C := R_Sn) (T := F_Sn) (N := 6) (n := 6) htg i_Sn (htg _ m_is_Sn)
  obtain ⟨c3, iS3, hKn3⟩ := u_known (C := R_Ed) (T := F_Ed) (N := 9) (n := 9) htg i_Ed (htg _ m_is_Ed)
  obtain ⟨c4, iS4, hKn4⟩ := u_known (C := R_Mo) (T := F_Mo) (N := 21) (n := 21) htg i_Mo (htg _ m_is_Mo)
  obtain ⟨D, hKc⟩ : ∃ D : va_G, ∀ (k : Nat) (q : vw_C), classes[k]? = some q → u_Kn s q.1 q.2.1 q.2.2 (D.1 k) (D.2 k) := by
    refine ⟨(fun k => match k with | 0 => c0 | 1 => c1 | 2 => c2 | 3 => c3 | _ => c4, fun k => match k with | 0 => iS0 | 1 => iS1 | 2 => iS2 | 3 => iS3 | _ => iS4), ?_⟩
    intro k q hq
    match k, hq with
    | 0, hq => cases hq; exact hKn0
    | 1, hq => cases hq; exact hKn1
    | 2, hq => cases hq; exact hKn2
    | 3, hq => cases hq; exact hKn3
    | 4, hq => cases hq; exact hKn4
    | k + 5, hq => simp [classes] at hq
  obtain ⟨a0, hA0⟩ := arr_known (ty := .byte) (fun C h => by cases h) (htg _ m_ac_byte)
  obtain ⟨a1, hA1⟩ := arr_known (ty := .int) (fun C h => by cases h) (htg _ m_ac_int)
  obtain ⟨a2, hA2⟩ := arr_known (ty := .short) (fun C h => by cases h) (htg _ m_ac_short)
  obtain ⟨cA, hKa⟩ : ∃ cA : Nat → ClassId, ∀ (k : Nat) (q : ClassId × FieldType), (tY cA)[k]? = some q → ArrOfT s q.1 q.2 ∧ va_RA s q.1 q.2 := by
    refine ⟨fun k => match k with | 0 => a0 | 1 => a1 | _ => a2, ?_⟩
    intro k q hq
    match k, hq with
    | 0, hq => cases hq; exact hA0
    | 1, hq => cases hq; exact hA1
    | 2, hq => cases hq; exact hA2
    | k + 3, hq => simp at hq
  have X : Cx p s m #[Value.ref b] c code 4 R_law D cA := ⟨hx, hb, hml, hown, htg, ⟨hKc, hKa⟩, NW.of hts⟩
  have hw : Wd D (fun q : Nat => s.heap.size ≤ q) s.heap [] s.heap [] := ⟨fun k q h => by simp at h, ⟨fun i j p q h => by simp at h, fun k q h => by simp at h⟩, va_S.rf, fun _ h => h⟩
  have hl := lv_entry ([.ref b]) (n := 4) (Nat.le_of_ble_eq_true rfl)
  rw [lg_entry_eq]
  generalize (lg_sl ([.ref b]) ++ List.replicate (4 - (lg_sl ([.ref b])).length) Slot.unset).toArray = ls at hl ⊢
  have hl : lv_has ls 4 [(0, .ref b)] := hl
  refine z_new (fs := [.null, .null, .null, .int (iI 0), .int (iI 0), .int (iI 0), .int (iI 0), .int (iI 0), .int (iI 0)]) X hw k_Ed m_cl_law_7 m_is_Ed m_in_Ed (fun j hj => by rcases (show j = 0 ∨ j = 1 ∨ j = 2 ∨ j = 3 ∨ j = 4 ∨ j = 5 ∨ j = 6 ∨ j = 7 ∨ j = 8 by omega) with rfl | rfl | rfl | rfl | rfl | rfl | rfl | rfl | rfl <;> rfl) (Nat.le_of_ble_eq_true rfl) (Nat.le_of_ble_eq_true rfl) d_law_0 (fun q_0 H hwA => ?_)
  refine W.widen (k := 1) (n := 9) (by decide) (by decide) ?_
  have hwB : Wd D (fun q : Nat => s.heap.size ≤ q) s.heap [(q_0, .inr (3, [.null, .null, .null, .int (iI 0), .int (iI 0), .int (iI 0), .int (iI 0), .int (iI 0), .int (iI 0)]))] H _ := hwA
  refine lv_dup X.1 X.2.1 d_law_3 rfl ?_
  refine z_afterV (w2 := fun u => w_Ed u.1 cA u.2.1 u.2.2 (fun _ => 0) 0 400 (fun _ => 0) (fun _ => 0) (fun _ => 0) (fun _ => 0) 0 401 0 0 0 0 0 0) (wr := []) hwB (z_runI (rest := [.ref q_0]) X hwB v_law_9 [] (c_Ed_init l D cA _ q_0) [0] rfl rfl rfl rfl hl.1 rfl (Nat.le_of_ble_eq_true rfl) ⟨rfl, rfl, Nat.le_of_ble_eq_true rfl, Nat.le_of_ble_eq_true rfl⟩ ⟨Nat.le_of_ble_eq_true rfl, Nat.le_of_ble_eq_true rfl⟩ d_law_4) [0] [] [0, 1, 2, 3, 4, 5, 6, 7, 8, 9, 10] rfl rfl rfl (by decide) rfl (fun _ => rfl) (fun _ => rfl) (fun u H locs hu hwC => ?_)
  refine W.widen (k := 11) (n := 2244) (by decide) (by decide) ?_
  obtain ⟨hq, hEA, hEK⟩ := hu
  subst hq
  refine lv_astore_n (lv' := [(1, .ref (u.1 0)), (0, .ref b)]) X.1 X.2.1 d_law_7 rfl hl (by decide) rfl (fun ls hl => ?_)
  refine z_new (fs := [.null, .null, .null, .int (iI 0), .int (iI 0), .null, .null, .null, .null, .int (iI 0), .int (iI 0), .int (iI 0), .null, .int (iI 0), .int (iI 0), .int (iI 0), .int (iI 0), .int (iI 0), .int (iI 0), .int (iI 0), .int (iI 0)]) X hwC k_Mo m_cl_law_10 m_is_Mo m_in_Mo (fun j hj => by rcases (show j = 0 ∨ j = 1 ∨ j = 2 ∨ j = 3 ∨ j = 4 ∨ j = 5 ∨ j = 6 ∨ j = 7 ∨ j = 8 ∨ j = 9 ∨ j = 10 ∨ j = 11 ∨ j = 12 ∨ j = 13 ∨ j = 14 ∨ j = 15 ∨ j = 16 ∨ j = 17 ∨ j = 18 ∨ j = 19 ∨ j = 20 by omega) with rfl | rfl | rfl | rfl | rfl | rfl | rfl | rfl | rfl | rfl | rfl | rfl | rfl | rfl | rfl | rfl | rfl | rfl | rfl | rfl | rfl <;> rfl) (Nat.le_of_ble_eq_true rfl) (Nat.le_of_ble_eq_true rfl) d_law_8 (fun q_8 H hwE => ?_)
  refine W.widen (k := 12) (n := 2265) (by decide) (by decide) ?_
  refine lv_dup X.1 X.2.1 d_law_11 rfl ?_
  refine z_afterV (w2 := fun v => (w_Ed u.1 cA u.2.1 u.2.2 (fun _ => 0) 0 400 (fun _ => 0) (fun _ => 0) (fun _ => 0) (fun _ => 0) 0 401 0 0 0 0 0 0) ++ (w_Mo v.1 cA v.2.1 v.2.2 (fun _ => 0) 0 0 (fun _ => 0) (fun _ => 0) (fun _ => 0) (fun _ => 0) (-1) 0 0 (fun _ => 0) 0 0 0 0 0 0 0 0)) (wr := w_Ed u.1 cA u.2.1 u.2.2 (fun _ => 0) 0 400 (fun _ => 0) (fun _ => 0) (fun _ => 0) (fun _ => 0) 0 401 0 0 0 0 0 0) hwE (z_runI (rest := [.ref q_8]) X hwE v_law_12 [] (c_Mo_init l D cA _ q_8) [11] rfl rfl rfl rfl hl.1 rfl (Nat.le_of_ble_eq_true rfl) ⟨rfl, rfl, Nat.le_of_ble_eq_true rfl, Nat.le_of_ble_eq_true rfl⟩ ⟨Nat.le_of_ble_eq_true rfl, Nat.le_of_ble_eq_true rfl⟩ d_law_12) [11] [0, 1, 2, 3, 4, 5, 6, 7, 8, 9, 10] [0, 1, 2, 3, 4, 5, 6, 7, 8, 9, 10, 11, 12, 13, 14, 15, 16, 17, 18, 19] rfl rfl rfl (by decide) rfl (fun _ => rfl) (fun _ => rfl) (fun v H locs hv hwF => ?_)
  refine W.widen (k := 20) (n := 4885) (by decide) (by decide) ?_
  obtain ⟨hq, hMA, hMK⟩ := hv
  subst hq
  refine lv_astore_n (lv' := [(2, .ref (v.1 0)), (1, .ref (u.1 0)), (0, .ref b)]) X.1 X.2.1 d_law_15 rfl hl (by decide) rfl (fun ls hl => ?_)
  refine z_iconst X d_law_16 ?_
  refine z_istore_n (lv' := [(3, .int (iI 0)), (2, .ref (v.1 0)), (1, .ref (u.1 0)), (0, .ref b)]) X d_law_17 rfl hl (by decide) rfl (fun ls hl => ?_)
  exact law_loop hL X hr hlocks hX hbl (L + 1) 0 u.1 v.1 (fun _ => -1) (fun _ => -1) (fun _ => 0) 0 0 0 u.2.1 u.2.2 (fun _ => 0) (fun _ => 0) (fun _ => 0) (fun _ => 0) (fun _ => 0) 0 400 0 401 0 0 0 0 0 0 v.2.1 v.2.2 (fun _ => 0) (fun _ => 0) (fun _ => 0) (fun _ => 0) (fun _ => 0) (fun _ => 0) (-1) 0 0 0 0 0 0 0 (by omega) (by omega) (CI_0 hEA hEK) (MI_0 hMA hMK) H locs ls hwF hl
end
section
-- ===== YOUR PART ENDS =====
set_option maxHeartbeats 4000000 in
theorem lw_walk (l : Launch) (b : Addr) (xs : List Int32) : MetFree l x (headSpec (Jvm.Cond.code x code maxLocals ret :: tables_1) room_1) (lw_P b xs) (fun _ _ _ _ _ => True) lw_Q := by
  refine MetFree.of_bodyS (code := code) (maxLocals := maxLocals) (ret := ret) (by decide) ?_ ?_
  · intro args s m h hn
    obtain ⟨meth, c, h1, h2, h3, h4, h5, h6, -, -⟩ := Cond.code_spec hn (atoms_spec (ws := Jvm.Cond.code x code maxLocals ret :: tables_1) h _ List.mem_cons_self)
    exact ⟨meth, c, h1, h2, h3, h4, h5, h6⟩
  · intro p e s m args below meth c s₁ B hml0 hP _
    obtain ⟨rfl, hx, hbd, hgv⟩ := hP
    obtain ⟨scr, harrAt, hlist, hof, hsmall⟩ := hx
    obtain ⟨hcb, hkn, -, -⟩ := State.arrayAt?_spec harrAt
    have hown : s.vm.findClass R_law = some m.cls := findClass_of_methodNamed B.named
    have hts0 : ∀ c ∈ (Jvm.Cond.code x code maxLocals ret :: tables_1), c.before #[Value.ref b] s = true := atoms_spec (ws := Jvm.Cond.code x code maxLocals ret :: tables_1) B.pre
    have hts : ∀ w ∈ lw_tbl, w.before #[Value.ref b] s = true := k2_hts_sels lw_privs (fun w hw => hts0 w (List.mem_cons_of_mem _ hw)) lw_privs_ok
    have hml : c.maxLocals = 4 := B.maxLocals_eq (hts0 _ List.mem_cons_self)
    have X₀ : Stand p l e room_1 s m #[Value.ref b] below meth c s₁ [] 0 0 := Stand.of_body B
    have hh0 : s₁.heap = s.heap := by rw [B.state]; rfl
    have hsz : scr.slots.size = xs.length := by rw [← Array.length_toList, hlist, List.length_map]
    have hval : ∀ j : Nat, j < xs.length → scr.slots[j]? = some (.int (xs.getD j 0)) := fun j hj => by
      rw [← Array.getElem?_toList, hlist]
      simp [hj]
    have hbl : b < s.heap.size := (Array.getElem?_eq_some_iff.mp hcb).1
    have hX : va_X b xs.length (fun j => xs.getD j 0) s s.heap := ⟨scr, hcb, hof, hkn, hsz, hval⟩
    have K : W p l e room_1 s m #[Value.ref b] below meth c s₁.heap [] 0 0 (lw_Z below #[Value.ref b] s) (entryFrame m ([Value.ref b] : List Value).toArray 4) := by
      rw [hh0]
      exact whole_start l hbd ⟨B.exec, B.bytes, B.returns, hml, hown, hts, hX, hbl, B.notSynchronized, hgv⟩
    obtain ⟨t, a1, o, b1, b2, b3⟩ := K s₁ rfl X₀
    exact ⟨t, o, a1, b1, b2, b3⟩
theorem lw_pre_spec {args : Array Value} {s : State} (h : (Jvm.Cond.and given_1 narrow_1).before args s = true) (hr : rest_1_c.before args s = true) : ∃ (b : Addr) (xs : List Int32), lw_P b xs args s := by
  have hs := flat_of_before _ h
  have hq := flat_of_before _ hr
  have hc : (Cond.count 1).before args s = true := hs _ (by decide +kernel)
  have harr : (Cond.arrayOf (.arg 0) .int).before args s = true := hs _ (by decide +kernel)
  have hle : (Cond.le (.length (.arg 0)) (.int 3072)).before args s = true := hs _ (by decide +kernel)
  have hlen : (Cond.isInt (.length (.arg 0))).before args s = true := hq _ (by decide +kernel)
  have hall : (Cond.all (.arg 0) (.isInt (.elem (.arg 0) (.index 0)))).before args s = true := hq _ (by decide +kernel)
  obtain ⟨b, xs, hb, hx⟩ := State.ints_of_pre rfl harr hlen hall
  have hsm : xs.length < 2 ^ 31 := hx.choose_spec.2.2.2
  have hev : (Term.length (.arg 0)).eval args s none [] s = some (.int xs.length.toInt32) := hx.length_eval hb
  have hv := Cond.le_ints hev (show (Term.int 3072).eval args s none [] s = some (.int 3072) from rfl)
  have hd : xs.length.toInt32 ≤ 3072 := by
    simpa [Cond.before, Cond.holds, hv] using hle
  have hN : xs.length ≤ 3072 := (Int32.ofNat_le_ofNat hsm (by decide)).mp (show Int32.ofNat xs.length ≤ Int32.ofNat 3072 from hd)
  exact ⟨b, xs, Cond.one_arg hc (show args[0]? = some (.ref b) from hb), hx, hN, h⟩
theorem lw_comes (l : Launch) : Comes l x (Jvm.Cond.code x code maxLocals ret :: tables_1) room_1 (fun tb e args s => Calls_1 tb e args s ∧ rest_1 tb e args s ∧ Pre_1 tb e args s)
    (fun _ _ args s o t => lw_Q args s o t) := by
  intro p e ha hc hk s m args below hf hfit hheap happ hpre
  obtain ⟨b, xs, hP⟩ := lw_pre_spec hpre.2.2 hpre.2.1
  obtain ⟨k, o, h1, h2, h3, hQ⟩ := lw_walk l b xs p e ha hc hk s m args below hf ((Spec.applies_iff_loose hf).mp happ).1 hP trivial
  exact ⟨k, o, h1, h2, h3, hQ⟩
theorem lw_frame {s t : State} {o : Outcome} {args : Array Value} (h : Framed s o t [] 20 4885) :
    Framed s o t (fieldLocs frame_1_writes args s ++ arrayLocs frame_1_arrays args s ++ staticLocs frame_1_statics s) 20 4885 := h
theorem lw_limb (L : Cond) (hL : ∀ (args : Array Value) (s t : State), L.after args s (.returned (some (.int 1))) t = true) :
    ArmFor flags0 classFile x code maxLocals ret World_1 tables_1 room_1 Calls_1 rest_1 Pre_1
      (fun tb e a s o t => postC L tb e a s o t ∧ Framed s o t (fieldLocs frame_1_writes a s ++ arrayLocs frame_1_arrays a s ++ staticLocs frame_1_statics s) 20 4885) := by
  intro l _ _ _ p e ha hc hk s m args below hf hfit hheap happ hpre
  obtain ⟨k, o, h1, h2, h3, rfl, hF⟩ := lw_comes l p e ha hc hk s m args below hf hfit hheap happ hpre
  exact ⟨k, _, h1, h2, h3, hL args s _, lw_frame hF⟩
theorem i_vc : Claimed_1_1 ∧ Claimed_1_2 := ⟨lw_limb limb_1_1 (fun args s t => by simp [limb_1_1, Cond.after, Cond.holds, Cond.value]), lw_limb limb_1_2 (fun args s t => Cond.after_iff.mpr (by
  first | (rw [show limb_1_2 = Cond.eq .result (.int 1) from rfl, Cond.eq_ints (x := 1) (y := 1) rfl rfl]; simp; done) | (simp [limb_1_2, Cond.value, Term.eval]; done)))⟩
end
