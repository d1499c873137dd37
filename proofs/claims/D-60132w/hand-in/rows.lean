section
-- ===== PART A: goes FIRST, ahead of the names: the tables' words, and 'selects' of the private methods out of them =====
/-- a private method of a class that the tables say can be made, by its rows of tables_1 -/
def lw_okq (q : MethodName × Nat) : Prop := (q.1.cls ≠ "java/lang/invoke/MethodHandle" ∧ q.1.cls ≠ "java/lang/invoke/VarHandle") ∧ Cond.instantiable q.1.cls q.2 ∈ tables_1 ∧ Cond.privateMethod q.1 ∈ tables_1 ∧ Cond.instanceMethod q.1 ∈ tables_1
theorem lw_p0 : lw_okq (⟨"SeaweedWindows", "badLetter", "(I)Z"⟩, 8) := ⟨⟨by decide +kernel, by decide +kernel⟩, List.mem_of_getElem? (i := 4) (by decide +kernel), List.mem_of_getElem? (i := 42) (by decide +kernel), List.mem_of_getElem? (i := 43) (by decide +kernel)⟩
theorem lw_p1 : lw_okq (⟨"SeaweedWindows", "addRow", "(I)V"⟩, 8) := ⟨⟨by decide +kernel, by decide +kernel⟩, List.mem_of_getElem? (i := 4) (by decide +kernel), List.mem_of_getElem? (i := 46) (by decide +kernel), List.mem_of_getElem? (i := 47) (by decide +kernel)⟩
theorem lw_p2 : lw_okq (⟨"SeaweedWindows", "cell", "(III)V"⟩, 8) := ⟨⟨by decide +kernel, by decide +kernel⟩, List.mem_of_getElem? (i := 4) (by decide +kernel), List.mem_of_getElem? (i := 50) (by decide +kernel), List.mem_of_getElem? (i := 51) (by decide +kernel)⟩
theorem lw_p3 : lw_okq (⟨"SeaweedWindows", "letterA", "(II)I"⟩, 8) := ⟨⟨by decide +kernel, by decide +kernel⟩, List.mem_of_getElem? (i := 4) (by decide +kernel), List.mem_of_getElem? (i := 54) (by decide +kernel), List.mem_of_getElem? (i := 55) (by decide +kernel)⟩
theorem lw_p4 : lw_okq (⟨"SeaweedWindows", "letterB", "(II)I"⟩, 8) := ⟨⟨by decide +kernel, by decide +kernel⟩, List.mem_of_getElem? (i := 4) (by decide +kernel), List.mem_of_getElem? (i := 58) (by decide +kernel), List.mem_of_getElem? (i := 59) (by decide +kernel)⟩
theorem lw_p5 : lw_okq (⟨"SeaweedWindows", "addColumn", "(I)V"⟩, 8) := ⟨⟨by decide +kernel, by decide +kernel⟩, List.mem_of_getElem? (i := 4) (by decide +kernel), List.mem_of_getElem? (i := 66) (by decide +kernel), List.mem_of_getElem? (i := 67) (by decide +kernel)⟩
theorem lw_p6 : lw_okq (⟨"SeaweedWindows", "combAgain", "()V"⟩, 8) := ⟨⟨by decide +kernel, by decide +kernel⟩, List.mem_of_getElem? (i := 4) (by decide +kernel), List.mem_of_getElem? (i := 74) (by decide +kernel), List.mem_of_getElem? (i := 75) (by decide +kernel)⟩
theorem lw_p7 : lw_okq (⟨"SeaweedWindows", "combAll", "(III)V"⟩, 8) := ⟨⟨by decide +kernel, by decide +kernel⟩, List.mem_of_getElem? (i := 4) (by decide +kernel), List.mem_of_getElem? (i := 78) (by decide +kernel), List.mem_of_getElem? (i := 79) (by decide +kernel)⟩
theorem lw_p8 : lw_okq (⟨"SeaweedWindows", "badStretch", "(III)Z"⟩, 8) := ⟨⟨by decide +kernel, by decide +kernel⟩, List.mem_of_getElem? (i := 4) (by decide +kernel), List.mem_of_getElem? (i := 98) (by decide +kernel), List.mem_of_getElem? (i := 99) (by decide +kernel)⟩
theorem lw_p9 : lw_okq (⟨"SeaweedWindows", "common", "(III)I"⟩, 8) := ⟨⟨by decide +kernel, by decide +kernel⟩, List.mem_of_getElem? (i := 4) (by decide +kernel), List.mem_of_getElem? (i := 102) (by decide +kernel), List.mem_of_getElem? (i := 103) (by decide +kernel)⟩
theorem lw_p10 : lw_okq (⟨"SeaweedWindows", "commonRows", "(III)I"⟩, 8) := ⟨⟨by decide +kernel, by decide +kernel⟩, List.mem_of_getElem? (i := 4) (by decide +kernel), List.mem_of_getElem? (i := 110) (by decide +kernel), List.mem_of_getElem? (i := 111) (by decide +kernel)⟩
theorem lw_p11 : lw_okq (⟨"SeaweedWindows", "badCounts", "(II)Z"⟩, 8) := ⟨⟨by decide +kernel, by decide +kernel⟩, List.mem_of_getElem? (i := 4) (by decide +kernel), List.mem_of_getElem? (i := 118) (by decide +kernel), List.mem_of_getElem? (i := 119) (by decide +kernel)⟩
theorem lw_p12 : lw_okq (⟨"SeaweedWindows", "changes", "(II)I"⟩, 8) := ⟨⟨by decide +kernel, by decide +kernel⟩, List.mem_of_getElem? (i := 4) (by decide +kernel), List.mem_of_getElem? (i := 130) (by decide +kernel), List.mem_of_getElem? (i := 131) (by decide +kernel)⟩
theorem lw_p13 : lw_okq (⟨"SeaweedWindows", "widestOf", "(III)I"⟩, 8) := ⟨⟨by decide +kernel, by decide +kernel⟩, List.mem_of_getElem? (i := 4) (by decide +kernel), List.mem_of_getElem? (i := 151) (by decide +kernel), List.mem_of_getElem? (i := 152) (by decide +kernel)⟩
theorem lw_p14 : lw_okq (⟨"SeaweedWindowsModel", "isLetter", "(I)Z"⟩, 6) := ⟨⟨by decide +kernel, by decide +kernel⟩, List.mem_of_getElem? (i := 167) (by decide +kernel), List.mem_of_getElem? (i := 196) (by decide +kernel), List.mem_of_getElem? (i := 197) (by decide +kernel)⟩
theorem lw_p15 : lw_okq (⟨"SeaweedWindowsModel", "isStretch", "(III)Z"⟩, 6) := ⟨⟨by decide +kernel, by decide +kernel⟩, List.mem_of_getElem? (i := 167) (by decide +kernel), List.mem_of_getElem? (i := 224) (by decide +kernel), List.mem_of_getElem? (i := 225) (by decide +kernel)⟩
def lw_privs_1 : List (MethodName × Nat) := [(⟨"SeaweedWindows", "badLetter", "(I)Z"⟩, 8), (⟨"SeaweedWindows", "addRow", "(I)V"⟩, 8), (⟨"SeaweedWindows", "cell", "(III)V"⟩, 8), (⟨"SeaweedWindows", "letterA", "(II)I"⟩, 8), (⟨"SeaweedWindows", "letterB", "(II)I"⟩, 8), (⟨"SeaweedWindows", "addColumn", "(I)V"⟩, 8), (⟨"SeaweedWindows", "combAgain", "()V"⟩, 8), (⟨"SeaweedWindows", "combAll", "(III)V"⟩, 8), (⟨"SeaweedWindows", "badStretch", "(III)Z"⟩, 8), (⟨"SeaweedWindows", "common", "(III)I"⟩, 8), (⟨"SeaweedWindows", "commonRows", "(III)I"⟩, 8), (⟨"SeaweedWindows", "badCounts", "(II)Z"⟩, 8), (⟨"SeaweedWindows", "changes", "(II)I"⟩, 8), (⟨"SeaweedWindows", "widestOf", "(III)I"⟩, 8), (⟨"SeaweedWindowsModel", "isLetter", "(I)Z"⟩, 6), (⟨"SeaweedWindowsModel", "isStretch", "(III)Z"⟩, 6)]
theorem lw_r1 : ∀ q ∈ lw_privs_1, lw_okq q := List.forall_mem_cons.mpr ⟨lw_p0, List.forall_mem_cons.mpr ⟨lw_p1, List.forall_mem_cons.mpr ⟨lw_p2, List.forall_mem_cons.mpr ⟨lw_p3, List.forall_mem_cons.mpr ⟨lw_p4, List.forall_mem_cons.mpr ⟨lw_p5, List.forall_mem_cons.mpr ⟨lw_p6, List.forall_mem_cons.mpr ⟨lw_p7, List.forall_mem_cons.mpr ⟨lw_p8, List.forall_mem_cons.mpr ⟨lw_p9, List.forall_mem_cons.mpr ⟨lw_p10, List.forall_mem_cons.mpr ⟨lw_p11, List.forall_mem_cons.mpr ⟨lw_p12, List.forall_mem_cons.mpr ⟨lw_p13, List.forall_mem_cons.mpr ⟨lw_p14, List.forall_mem_cons.mpr ⟨lw_p15, fun _ h => absurd h List.not_mem_nil⟩⟩⟩⟩⟩⟩⟩⟩⟩⟩⟩⟩⟩⟩⟩⟩
theorem lw_p16 : lw_okq (⟨"SeaweedWindowsModel", "common", "(IIII)I"⟩, 6) := ⟨⟨by decide +kernel, by decide +kernel⟩, List.mem_of_getElem? (i := 167) (by decide +kernel), List.mem_of_getElem? (i := 228) (by decide +kernel), List.mem_of_getElem? (i := 229) (by decide +kernel)⟩
theorem lw_p17 : lw_okq (⟨"SeaweedWindowsModel", "changes", "(IIII)I"⟩, 6) := ⟨⟨by decide +kernel, by decide +kernel⟩, List.mem_of_getElem? (i := 167) (by decide +kernel), List.mem_of_getElem? (i := 248) (by decide +kernel), List.mem_of_getElem? (i := 249) (by decide +kernel)⟩
theorem lw_p18 : lw_okq (⟨"SeaweedWindowsModel", "least", "(II)I"⟩, 6) := ⟨⟨by decide +kernel, by decide +kernel⟩, List.mem_of_getElem? (i := 167) (by decide +kernel), List.mem_of_getElem? (i := 252) (by decide +kernel), List.mem_of_getElem? (i := 253) (by decide +kernel)⟩
theorem lw_p19 : lw_okq (⟨"SeaweedWindowsModel", "isTight", "(II)Z"⟩, 6) := ⟨⟨by decide +kernel, by decide +kernel⟩, List.mem_of_getElem? (i := 167) (by decide +kernel), List.mem_of_getElem? (i := 286) (by decide +kernel), List.mem_of_getElem? (i := 287) (by decide +kernel)⟩
def lw_privs_2 : List (MethodName × Nat) := [(⟨"SeaweedWindowsModel", "common", "(IIII)I"⟩, 6), (⟨"SeaweedWindowsModel", "changes", "(IIII)I"⟩, 6), (⟨"SeaweedWindowsModel", "least", "(II)I"⟩, 6), (⟨"SeaweedWindowsModel", "isTight", "(II)Z"⟩, 6)]
theorem lw_r2 : ∀ q ∈ lw_privs_2, lw_okq q := List.forall_mem_cons.mpr ⟨lw_p16, List.forall_mem_cons.mpr ⟨lw_p17, List.forall_mem_cons.mpr ⟨lw_p18, List.forall_mem_cons.mpr ⟨lw_p19, fun _ h => absurd h List.not_mem_nil⟩⟩⟩⟩
def lw_privs : List (MethodName × Nat) := lw_privs_1 ++ (lw_privs_2)
def lw_tbl : List Cond := k2_sels lw_privs ++ tables_1
theorem lw_privs_ok : ∀ q ∈ lw_privs, lw_okq q := by
  show ∀ q ∈ lw_privs_1 ++ (lw_privs_2), lw_okq q
  exact List.forall_mem_append.mpr ⟨lw_r1, lw_r2⟩
end
section
/-! NAMES: classes, fields, methods, words; printed by gen_names.py -/
/-- the words of the tables that every state keeps -/
def tb_ws : List Cond := lw_tbl.filter goodWord
theorem tb_good {w : Cond} (h : w ∈ tb_ws) : (w.onTables && w.keeps) = true ∨ ∃ ty, w = .arrayClass ty := good_of_word (List.mem_filter.mp h).2
theorem tb_in {i : Nat} {w : Cond} (h : lw_tbl[i]? = some w) (g : goodWord w = true) : w ∈ tb_ws := List.mem_filter.mpr ⟨List.mem_of_getElem? h, g⟩
theorem tb_sub {w : Cond} (h : w ∈ tb_ws) : w ∈ lw_tbl := (List.mem_filter.mp h).1
def R_X : String := "SeaweedWindows"
def R_Y : String := "SeaweedWindowsModel"
def R_law : String := "SeaweedWindowsLaw"
def F_X : u_T := fun k => match k with
  | 0 => ("SeaweedWindows", "m", "I", false)
  | 1 => ("SeaweedWindows", "a", "[I", true)
  | 2 => ("SeaweedWindows", "n", "I", false)
  | 3 => ("SeaweedWindows", "b", "[I", true)
  | 4 => ("SeaweedWindows", "rows", "[I", true)
  | 5 => ("SeaweedWindows", "columns", "[I", true)
  | 6 => ("SeaweedWindows", "right", "[I", true)
  | _ => ("SeaweedWindows", "down", "[I", true)
def t_X : Nat → FieldType := fun k => match k with
  | 0 => .int
  | 1 => .array .int
  | 2 => .int
  | 3 => .array .int
  | 4 => .array .int
  | 5 => .array .int
  | 6 => .array .int
  | _ => .array .int
theorem n_X : ∀ a, a < 8 → ∀ b, b < 8 → a ≠ b → (F_X a).2.1 ≠ (F_X b).2.1 := by decide +kernel
theorem t_X_ok : ∀ k, k < 8 → parseFieldDescriptor (F_X k).2.2.1 = some (t_X k) := by decide +kernel
theorem i_X : ∀ w ∈ u_ws R_X F_X 8, w ∈ tb_ws := by decide +kernel
def F_Y : u_T := fun k => match k with
  | 0 => ("SeaweedWindowsModel", "a", "[I", true)
  | 1 => ("SeaweedWindowsModel", "b", "[I", true)
  | 2 => ("SeaweedWindowsModel", "m", "I", false)
  | 3 => ("SeaweedWindowsModel", "n", "I", false)
  | 4 => ("SeaweedWindowsModel", "table", "[I", true)
  | _ => ("SeaweedWindowsModel", "of", "[I", true)
def t_Y : Nat → FieldType := fun k => match k with
  | 0 => .array .int
  | 1 => .array .int
  | 2 => .int
  | 3 => .int
  | 4 => .array .int
  | _ => .array .int
theorem n_Y : ∀ a, a < 6 → ∀ b, b < 6 → a ≠ b → (F_Y a).2.1 ≠ (F_Y b).2.1 := by decide +kernel
theorem t_Y_ok : ∀ k, k < 6 → parseFieldDescriptor (F_Y k).2.2.1 = some (t_Y k) := by decide +kernel
theorem i_Y : ∀ w ∈ u_ws R_Y F_Y 6, w ∈ tb_ws := by decide +kernel
abbrev classes : List vw_C := [(R_X, F_X, 8), (R_Y, F_Y, 6)]
abbrev b_X_init : ByteArray := prog_1_method_1_code
def y_X_init : MethodName := ⟨R_X, "<init>", "()V"⟩
theorem tc_X_init : Cond.code y_X_init b_X_init 1 none ∈ tb_ws := tb_in (i := 27) rfl rfl
abbrev b_X_growA : ByteArray := prog_1_method_11_code
def y_X_growA : MethodName := ⟨R_X, "growA", "(I)I"⟩
theorem tc_X_growA : Cond.code y_X_growA b_X_growA 2 (some .int) ∈ tb_ws := tb_in (i := 60) rfl rfl
abbrev b_X_badLetter : ByteArray := prog_1_method_10_code
def y_X_badLetter : MethodName := ⟨R_X, "badLetter", "(I)Z"⟩
theorem tc_X_badLetter : Cond.code y_X_badLetter b_X_badLetter 2 (some .boolean) ∈ tb_ws := tb_in (i := 64) rfl rfl
abbrev b_X_addRow : ByteArray := prog_1_method_5_code
def y_X_addRow : MethodName := ⟨R_X, "addRow", "(I)V"⟩
theorem tc_X_addRow : Cond.code y_X_addRow b_X_addRow 4 none ∈ tb_ws := tb_in (i := 68) rfl rfl
abbrev b_X_cell : ByteArray := prog_1_method_4_code
def y_X_cell : MethodName := ⟨R_X, "cell", "(III)V"⟩
theorem tc_X_cell : Cond.code y_X_cell b_X_cell 8 none ∈ tb_ws := tb_in (i := 72) rfl rfl
abbrev b_X_letterA : ByteArray := prog_1_method_2_code
def y_X_letterA : MethodName := ⟨R_X, "letterA", "(II)I"⟩
theorem tc_X_letterA : Cond.code y_X_letterA b_X_letterA 3 (some .int) ∈ tb_ws := tb_in (i := 76) rfl rfl
abbrev b_X_letterB : ByteArray := prog_1_method_3_code
def y_X_letterB : MethodName := ⟨R_X, "letterB", "(II)I"⟩
theorem tc_X_letterB : Cond.code y_X_letterB b_X_letterB 3 (some .int) ∈ tb_ws := tb_in (i := 80) rfl rfl
abbrev b_X_growB : ByteArray := prog_1_method_12_code
def y_X_growB : MethodName := ⟨R_X, "growB", "(I)I"⟩
theorem tc_X_growB : Cond.code y_X_growB b_X_growB 2 (some .int) ∈ tb_ws := tb_in (i := 84) rfl rfl
abbrev b_X_addColumn : ByteArray := prog_1_method_6_code
def y_X_addColumn : MethodName := ⟨R_X, "addColumn", "(I)V"⟩
theorem tc_X_addColumn : Cond.code y_X_addColumn b_X_addColumn 4 none ∈ tb_ws := tb_in (i := 88) rfl rfl
abbrev b_X_putA : ByteArray := prog_1_method_13_code
def y_X_putA : MethodName := ⟨R_X, "putA", "(II)I"⟩
theorem tc_X_putA : Cond.code y_X_putA b_X_putA 4 (some .int) ∈ tb_ws := tb_in (i := 92) rfl rfl
abbrev b_X_combAgain : ByteArray := prog_1_method_8_code
def y_X_combAgain : MethodName := ⟨R_X, "combAgain", "()V"⟩
theorem tc_X_combAgain : Cond.code y_X_combAgain b_X_combAgain 1 none ∈ tb_ws := tb_in (i := 96) rfl rfl
abbrev b_X_combAll : ByteArray := prog_1_method_7_code
def y_X_combAll : MethodName := ⟨R_X, "combAll", "(III)V"⟩
theorem tc_X_combAll : Cond.code y_X_combAll b_X_combAll 5 none ∈ tb_ws := tb_in (i := 100) rfl rfl
abbrev b_X_shiftB : ByteArray := prog_1_method_14_code
def y_X_shiftB : MethodName := ⟨R_X, "shiftB", "()I"⟩
theorem tc_X_shiftB : Cond.code y_X_shiftB b_X_shiftB 3 (some .int) ∈ tb_ws := tb_in (i := 104) rfl rfl
abbrev b_X_clear : ByteArray := prog_1_method_15_code
def y_X_clear : MethodName := ⟨R_X, "clear", "()V"⟩
theorem tc_X_clear : Cond.code y_X_clear b_X_clear 1 none ∈ tb_ws := tb_in (i := 108) rfl rfl
abbrev b_X_lengths : ByteArray := prog_1_method_16_code
def y_X_lengths : MethodName := ⟨R_X, "lengths", "()I"⟩
theorem tc_X_lengths : Cond.code y_X_lengths b_X_lengths 1 (some .int) ∈ tb_ws := tb_in (i := 112) rfl rfl
abbrev b_X_commonB : ByteArray := prog_1_method_18_code
def y_X_commonB : MethodName := ⟨R_X, "commonB", "(II)I"⟩
theorem tc_X_commonB : Cond.code y_X_commonB b_X_commonB 3 (some .int) ∈ tb_ws := tb_in (i := 116) rfl rfl
abbrev b_X_badStretch : ByteArray := prog_1_method_17_code
def y_X_badStretch : MethodName := ⟨R_X, "badStretch", "(III)Z"⟩
theorem tc_X_badStretch : Cond.code y_X_badStretch b_X_badStretch 4 (some .boolean) ∈ tb_ws := tb_in (i := 120) rfl rfl
abbrev b_X_common : ByteArray := prog_1_method_9_code
def y_X_common : MethodName := ⟨R_X, "common", "(III)I"⟩
theorem tc_X_common : Cond.code y_X_common b_X_common 7 (some .int) ∈ tb_ws := tb_in (i := 124) rfl rfl
abbrev b_X_commonA : ByteArray := prog_1_method_20_code
def y_X_commonA : MethodName := ⟨R_X, "commonA", "(II)I"⟩
theorem tc_X_commonA : Cond.code y_X_commonA b_X_commonA 3 (some .int) ∈ tb_ws := tb_in (i := 128) rfl rfl
abbrev b_X_commonRows : ByteArray := prog_1_method_19_code
def y_X_commonRows : MethodName := ⟨R_X, "commonRows", "(III)I"⟩
theorem tc_X_commonRows : Cond.code y_X_commonRows b_X_commonRows 6 (some .int) ∈ tb_ws := tb_in (i := 132) rfl rfl
abbrev b_X_commonEnd : ByteArray := prog_1_method_22_code
def y_X_commonEnd : MethodName := ⟨R_X, "commonEnd", "(II)I"⟩
theorem tc_X_commonEnd : Cond.code y_X_commonEnd b_X_commonEnd 5 (some .int) ∈ tb_ws := tb_in (i := 136) rfl rfl
abbrev b_X_badCounts : ByteArray := prog_1_method_21_code
def y_X_badCounts : MethodName := ⟨R_X, "badCounts", "(II)Z"⟩
theorem tc_X_badCounts : Cond.code y_X_badCounts b_X_badCounts 3 (some .boolean) ∈ tb_ws := tb_in (i := 140) rfl rfl
abbrev b_X_commonBegin : ByteArray := prog_1_method_23_code
def y_X_commonBegin : MethodName := ⟨R_X, "commonBegin", "(II)I"⟩
theorem tc_X_commonBegin : Cond.code y_X_commonBegin b_X_commonBegin 5 (some .int) ∈ tb_ws := tb_in (i := 144) rfl rfl
abbrev b_X_changesB : ByteArray := prog_1_method_25_code
def y_X_changesB : MethodName := ⟨R_X, "changesB", "(II)I"⟩
theorem tc_X_changesB : Cond.code y_X_changesB b_X_changesB 3 (some .int) ∈ tb_ws := tb_in (i := 148) rfl rfl
abbrev b_X_changes : ByteArray := prog_1_method_24_code
def y_X_changes : MethodName := ⟨R_X, "changes", "(II)I"⟩
theorem tc_X_changes : Cond.code y_X_changes b_X_changes 4 (some .int) ∈ tb_ws := tb_in (i := 152) rfl rfl
abbrev b_X_changesA : ByteArray := prog_1_method_26_code
def y_X_changesA : MethodName := ⟨R_X, "changesA", "(II)I"⟩
theorem tc_X_changesA : Cond.code y_X_changesA b_X_changesA 4 (some .int) ∈ tb_ws := tb_in (i := 156) rfl rfl
abbrev b_X_nearest : ByteArray := prog_1_method_27_code
def y_X_nearest : MethodName := ⟨R_X, "nearest", "()I"⟩
theorem tc_X_nearest : Cond.code y_X_nearest b_X_nearest 2 (some .int) ∈ tb_ws := tb_in (i := 160) rfl rfl
abbrev b_X_nearestAt : ByteArray := prog_1_method_28_code
def y_X_nearestAt : MethodName := ⟨R_X, "nearestAt", "()I"⟩
theorem tc_X_nearestAt : Cond.code y_X_nearestAt b_X_nearestAt 6 (some .int) ∈ tb_ws := tb_in (i := 164) rfl rfl
abbrev b_X_shortest : ByteArray := prog_1_method_30_code
def y_X_shortest : MethodName := ⟨R_X, "shortest", "(I)I"⟩
theorem tc_X_shortest : Cond.code y_X_shortest b_X_shortest 4 (some .int) ∈ tb_ws := tb_in (i := 169) rfl rfl
abbrev b_X_widestOf : ByteArray := prog_1_method_29_code
def y_X_widestOf : MethodName := ⟨R_X, "widestOf", "(III)I"⟩
theorem tc_X_widestOf : Cond.code y_X_widestOf b_X_widestOf 7 (some .int) ∈ tb_ws := tb_in (i := 173) rfl rfl
abbrev b_X_widest : ByteArray := prog_1_method_31_code
def y_X_widest : MethodName := ⟨R_X, "widest", "(I)I"⟩
theorem tc_X_widest : Cond.code y_X_widest b_X_widest 2 (some .int) ∈ tb_ws := tb_in (i := 177) rfl rfl
abbrev b_X_rotated : ByteArray := prog_1_method_32_code
def y_X_rotated : MethodName := ⟨R_X, "rotated", "()I"⟩
theorem tc_X_rotated : Cond.code y_X_rotated b_X_rotated 1 (some .int) ∈ tb_ws := tb_in (i := 181) rfl rfl
abbrev b_X_tight : ByteArray := prog_1_method_33_code
def y_X_tight : MethodName := ⟨R_X, "tight", "()I"⟩
theorem tc_X_tight : Cond.code y_X_tight b_X_tight 7 (some .int) ∈ tb_ws := tb_in (i := 185) rfl rfl
abbrev b_Y_init : ByteArray := prog_3_method_1_code
def y_Y_init : MethodName := ⟨R_Y, "<init>", "()V"⟩
theorem tc_Y_init : Cond.code y_Y_init b_Y_init 1 none ∈ tb_ws := tb_in (i := 190) rfl rfl
abbrev b_Y_growA : ByteArray := prog_3_method_3_code
def y_Y_growA : MethodName := ⟨R_Y, "growA", "(I)I"⟩
theorem tc_Y_growA : Cond.code y_Y_growA b_Y_growA 2 (some .int) ∈ tb_ws := tb_in (i := 214) rfl rfl
abbrev b_Y_isLetter : ByteArray := prog_3_method_2_code
def y_Y_isLetter : MethodName := ⟨R_Y, "isLetter", "(I)Z"⟩
theorem tc_Y_isLetter : Cond.code y_Y_isLetter b_Y_isLetter 2 (some .boolean) ∈ tb_ws := tb_in (i := 218) rfl rfl
abbrev b_Y_growB : ByteArray := prog_3_method_4_code
def y_Y_growB : MethodName := ⟨R_Y, "growB", "(I)I"⟩
theorem tc_Y_growB : Cond.code y_Y_growB b_Y_growB 2 (some .int) ∈ tb_ws := tb_in (i := 222) rfl rfl
abbrev b_Y_putA : ByteArray := prog_3_method_5_code
def y_Y_putA : MethodName := ⟨R_Y, "putA", "(II)I"⟩
theorem tc_Y_putA : Cond.code y_Y_putA b_Y_putA 4 (some .int) ∈ tb_ws := tb_in (i := 226) rfl rfl
abbrev b_Y_shiftB : ByteArray := prog_3_method_6_code
def y_Y_shiftB : MethodName := ⟨R_Y, "shiftB", "()I"⟩
theorem tc_Y_shiftB : Cond.code y_Y_shiftB b_Y_shiftB 3 (some .int) ∈ tb_ws := tb_in (i := 230) rfl rfl
abbrev b_Y_clear : ByteArray := prog_3_method_7_code
def y_Y_clear : MethodName := ⟨R_Y, "clear", "()V"⟩
theorem tc_Y_clear : Cond.code y_Y_clear b_Y_clear 1 none ∈ tb_ws := tb_in (i := 234) rfl rfl
abbrev b_Y_lengths : ByteArray := prog_3_method_8_code
def y_Y_lengths : MethodName := ⟨R_Y, "lengths", "()I"⟩
theorem tc_Y_lengths : Cond.code y_Y_lengths b_Y_lengths 1 (some .int) ∈ tb_ws := tb_in (i := 238) rfl rfl
abbrev b_Y_commonB : ByteArray := prog_3_method_13_code
def y_Y_commonB : MethodName := ⟨R_Y, "commonB", "(II)I"⟩
theorem tc_Y_commonB : Cond.code y_Y_commonB b_Y_commonB 3 (some .int) ∈ tb_ws := tb_in (i := 242) rfl rfl
abbrev b_Y_isStretch : ByteArray := prog_3_method_12_code
def y_Y_isStretch : MethodName := ⟨R_Y, "isStretch", "(III)Z"⟩
theorem tc_Y_isStretch : Cond.code y_Y_isStretch b_Y_isStretch 4 (some .boolean) ∈ tb_ws := tb_in (i := 246) rfl rfl
abbrev b_Y_common : ByteArray := prog_3_method_9_code
def y_Y_common : MethodName := ⟨R_Y, "common", "(IIII)I"⟩
theorem tc_Y_common : Cond.code y_Y_common b_Y_common 10 (some .int) ∈ tb_ws := tb_in (i := 250) rfl rfl
abbrev b_Y_commonA : ByteArray := prog_3_method_14_code
def y_Y_commonA : MethodName := ⟨R_Y, "commonA", "(II)I"⟩
theorem tc_Y_commonA : Cond.code y_Y_commonA b_Y_commonA 3 (some .int) ∈ tb_ws := tb_in (i := 254) rfl rfl
abbrev b_Y_commonEnd : ByteArray := prog_3_method_15_code
def y_Y_commonEnd : MethodName := ⟨R_Y, "commonEnd", "(II)I"⟩
theorem tc_Y_commonEnd : Cond.code y_Y_commonEnd b_Y_commonEnd 3 (some .int) ∈ tb_ws := tb_in (i := 258) rfl rfl
abbrev b_Y_commonBegin : ByteArray := prog_3_method_16_code
def y_Y_commonBegin : MethodName := ⟨R_Y, "commonBegin", "(II)I"⟩
theorem tc_Y_commonBegin : Cond.code y_Y_commonBegin b_Y_commonBegin 3 (some .int) ∈ tb_ws := tb_in (i := 262) rfl rfl
abbrev b_Y_changesB : ByteArray := prog_3_method_17_code
def y_Y_changesB : MethodName := ⟨R_Y, "changesB", "(II)I"⟩
theorem tc_Y_changesB : Cond.code y_Y_changesB b_Y_changesB 3 (some .int) ∈ tb_ws := tb_in (i := 266) rfl rfl
abbrev b_Y_changes : ByteArray := prog_3_method_11_code
def y_Y_changes : MethodName := ⟨R_Y, "changes", "(IIII)I"⟩
theorem tc_Y_changes : Cond.code y_Y_changes b_Y_changes 10 (some .int) ∈ tb_ws := tb_in (i := 270) rfl rfl
abbrev b_Y_least : ByteArray := prog_3_method_10_code
def y_Y_least : MethodName := ⟨R_Y, "least", "(II)I"⟩
theorem tc_Y_least : Cond.code y_Y_least b_Y_least 3 (some .int) ∈ tb_ws := tb_in (i := 274) rfl rfl
abbrev b_Y_changesA : ByteArray := prog_3_method_18_code
def y_Y_changesA : MethodName := ⟨R_Y, "changesA", "(II)I"⟩
theorem tc_Y_changesA : Cond.code y_Y_changesA b_Y_changesA 3 (some .int) ∈ tb_ws := tb_in (i := 278) rfl rfl
abbrev b_Y_nearest : ByteArray := prog_3_method_19_code
def y_Y_nearest : MethodName := ⟨R_Y, "nearest", "()I"⟩
theorem tc_Y_nearest : Cond.code y_Y_nearest b_Y_nearest 5 (some .int) ∈ tb_ws := tb_in (i := 282) rfl rfl
abbrev b_Y_nearestAt : ByteArray := prog_3_method_20_code
def y_Y_nearestAt : MethodName := ⟨R_Y, "nearestAt", "()I"⟩
theorem tc_Y_nearestAt : Cond.code y_Y_nearestAt b_Y_nearestAt 4 (some .int) ∈ tb_ws := tb_in (i := 286) rfl rfl
abbrev b_Y_shortest : ByteArray := prog_3_method_21_code
def y_Y_shortest : MethodName := ⟨R_Y, "shortest", "(I)I"⟩
theorem tc_Y_shortest : Cond.code y_Y_shortest b_Y_shortest 3 (some .int) ∈ tb_ws := tb_in (i := 291) rfl rfl
abbrev b_Y_widest : ByteArray := prog_3_method_22_code
def y_Y_widest : MethodName := ⟨R_Y, "widest", "(I)I"⟩
theorem tc_Y_widest : Cond.code y_Y_widest b_Y_widest 5 (some .int) ∈ tb_ws := tb_in (i := 295) rfl rfl
abbrev b_Y_rotated : ByteArray := prog_3_method_23_code
def y_Y_rotated : MethodName := ⟨R_Y, "rotated", "()I"⟩
theorem tc_Y_rotated : Cond.code y_Y_rotated b_Y_rotated 4 (some .int) ∈ tb_ws := tb_in (i := 300) rfl rfl
abbrev b_Y_tight : ByteArray := prog_3_method_25_code
def y_Y_tight : MethodName := ⟨R_Y, "tight", "()I"⟩
theorem tc_Y_tight : Cond.code y_Y_tight b_Y_tight 4 (some .int) ∈ tb_ws := tb_in (i := 304) rfl rfl
abbrev b_Y_isTight : ByteArray := prog_3_method_24_code
def y_Y_isTight : MethodName := ⟨R_Y, "isTight", "(II)Z"⟩
theorem tc_Y_isTight : Cond.code y_Y_isTight b_Y_isTight 6 (some .boolean) ∈ tb_ws := tb_in (i := 308) rfl rfl
theorem ts_X_badLetter : Cond.selects R_X y_X_badLetter y_X_badLetter ∈ tb_ws := tb_in (i := 0) rfl rfl
theorem ts_X_addRow : Cond.selects R_X y_X_addRow y_X_addRow ∈ tb_ws := tb_in (i := 1) rfl rfl
theorem ts_X_cell : Cond.selects R_X y_X_cell y_X_cell ∈ tb_ws := tb_in (i := 2) rfl rfl
theorem ts_X_letterA : Cond.selects R_X y_X_letterA y_X_letterA ∈ tb_ws := tb_in (i := 3) rfl rfl
theorem ts_X_letterB : Cond.selects R_X y_X_letterB y_X_letterB ∈ tb_ws := tb_in (i := 4) rfl rfl
theorem ts_X_addColumn : Cond.selects R_X y_X_addColumn y_X_addColumn ∈ tb_ws := tb_in (i := 5) rfl rfl
theorem ts_X_combAgain : Cond.selects R_X y_X_combAgain y_X_combAgain ∈ tb_ws := tb_in (i := 6) rfl rfl
theorem ts_X_combAll : Cond.selects R_X y_X_combAll y_X_combAll ∈ tb_ws := tb_in (i := 7) rfl rfl
theorem ts_X_badStretch : Cond.selects R_X y_X_badStretch y_X_badStretch ∈ tb_ws := tb_in (i := 8) rfl rfl
theorem ts_X_common : Cond.selects R_X y_X_common y_X_common ∈ tb_ws := tb_in (i := 9) rfl rfl
theorem ts_X_commonRows : Cond.selects R_X y_X_commonRows y_X_commonRows ∈ tb_ws := tb_in (i := 10) rfl rfl
theorem ts_X_badCounts : Cond.selects R_X y_X_badCounts y_X_badCounts ∈ tb_ws := tb_in (i := 11) rfl rfl
theorem ts_X_changes : Cond.selects R_X y_X_changes y_X_changes ∈ tb_ws := tb_in (i := 12) rfl rfl
theorem ts_X_widestOf : Cond.selects R_X y_X_widestOf y_X_widestOf ∈ tb_ws := tb_in (i := 13) rfl rfl
theorem ts_Y_isLetter : Cond.selects R_Y y_Y_isLetter y_Y_isLetter ∈ tb_ws := tb_in (i := 14) rfl rfl
theorem ts_Y_isStretch : Cond.selects R_Y y_Y_isStretch y_Y_isStretch ∈ tb_ws := tb_in (i := 15) rfl rfl
theorem ts_Y_common : Cond.selects R_Y y_Y_common y_Y_common ∈ tb_ws := tb_in (i := 16) rfl rfl
theorem ts_Y_changes : Cond.selects R_Y y_Y_changes y_Y_changes ∈ tb_ws := tb_in (i := 17) rfl rfl
theorem ts_Y_least : Cond.selects R_Y y_Y_least y_Y_least ∈ tb_ws := tb_in (i := 18) rfl rfl
theorem ts_Y_isTight : Cond.selects R_Y y_Y_isTight y_Y_isTight ∈ tb_ws := tb_in (i := 19) rfl rfl
theorem tn_law : Cond.initialized R_law ∈ tb_ws := tb_in (i := 20) rfl rfl
theorem tn_X : Cond.initialized R_X ∈ tb_ws := tb_in (i := 21) rfl rfl
theorem tn_Y : Cond.initialized R_Y ∈ tb_ws := tb_in (i := 22) rfl rfl
theorem tk_law_7 : Cond.classLink R_law 7 R_X ∈ tb_ws := tb_in (i := 23) rfl rfl
theorem tq_X : Cond.instantiable R_X 8 ∈ tb_ws := tb_in (i := 24) rfl rfl
theorem tl_law_9 : Cond.methodLink R_law 9 y_X_init ∈ tb_ws := tb_in (i := 25) rfl rfl
theorem ti_X_init : Cond.instanceMethod y_X_init ∈ tb_ws := tb_in (i := 26) rfl rfl
theorem tl_X_1 : Cond.methodLink R_X 1 objectInit ∈ tb_ws := tb_in (i := 28) rfl rfl
theorem ti_object : Cond.instanceMethod objectInit ∈ tb_ws := tb_in (i := 29) rfl rfl
theorem tc_object : Cond.code objectInit ⟨#[0xb1]⟩ 1 none ∈ tb_ws := tb_in (i := 30) rfl rfl
theorem tf_X_m : Cond.fieldLink R_X 50 "SeaweedWindows" "m" "I" ∈ tb_ws := tb_in (i := 31) rfl rfl
theorem tf_X_a : Cond.fieldLink R_X 7 "SeaweedWindows" "a" "[I" ∈ tb_ws := tb_in (i := 32) rfl rfl
theorem tf_X_n : Cond.fieldLink R_X 28 "SeaweedWindows" "n" "I" ∈ tb_ws := tb_in (i := 33) rfl rfl
theorem tf_X_b : Cond.fieldLink R_X 13 "SeaweedWindows" "b" "[I" ∈ tb_ws := tb_in (i := 34) rfl rfl
theorem tf_X_rows : Cond.fieldLink R_X 16 "SeaweedWindows" "rows" "[I" ∈ tb_ws := tb_in (i := 35) rfl rfl
theorem tf_X_columns : Cond.fieldLink R_X 19 "SeaweedWindows" "columns" "[I" ∈ tb_ws := tb_in (i := 36) rfl rfl
theorem tf_X_right : Cond.fieldLink R_X 22 "SeaweedWindows" "right" "[I" ∈ tb_ws := tb_in (i := 37) rfl rfl
theorem tf_X_down : Cond.fieldLink R_X 25 "SeaweedWindows" "down" "[I" ∈ tb_ws := tb_in (i := 38) rfl rfl
theorem ta_int : Cond.arrayClass .int ∈ tb_ws := tb_in (i := 56) rfl rfl
theorem tl_law_13 : Cond.methodLink R_law 13 y_X_growA ∈ tb_ws := tb_in (i := 57) rfl rfl
theorem ti_X_growA : Cond.instanceMethod y_X_growA ∈ tb_ws := tb_in (i := 58) rfl rfl
theorem ts_X_growA : Cond.selects R_X y_X_growA y_X_growA ∈ tb_ws := tb_in (i := 59) rfl rfl
theorem tl_X_56 : Cond.methodLink R_X 56 y_X_badLetter ∈ tb_ws := tb_in (i := 61) rfl rfl
theorem ti_X_badLetter : Cond.instanceMethod y_X_badLetter ∈ tb_ws := tb_in (i := 63) rfl rfl
theorem tl_X_43 : Cond.methodLink R_X 43 y_X_addRow ∈ tb_ws := tb_in (i := 65) rfl rfl
theorem ti_X_addRow : Cond.instanceMethod y_X_addRow ∈ tb_ws := tb_in (i := 67) rfl rfl
theorem tl_X_39 : Cond.methodLink R_X 39 y_X_cell ∈ tb_ws := tb_in (i := 69) rfl rfl
theorem ti_X_cell : Cond.instanceMethod y_X_cell ∈ tb_ws := tb_in (i := 71) rfl rfl
theorem tl_X_32 : Cond.methodLink R_X 32 y_X_letterA ∈ tb_ws := tb_in (i := 73) rfl rfl
theorem ti_X_letterA : Cond.instanceMethod y_X_letterA ∈ tb_ws := tb_in (i := 75) rfl rfl
theorem tl_X_36 : Cond.methodLink R_X 36 y_X_letterB ∈ tb_ws := tb_in (i := 77) rfl rfl
theorem ti_X_letterB : Cond.instanceMethod y_X_letterB ∈ tb_ws := tb_in (i := 79) rfl rfl
theorem tl_law_18 : Cond.methodLink R_law 18 y_X_growB ∈ tb_ws := tb_in (i := 81) rfl rfl
theorem ti_X_growB : Cond.instanceMethod y_X_growB ∈ tb_ws := tb_in (i := 82) rfl rfl
theorem ts_X_growB : Cond.selects R_X y_X_growB y_X_growB ∈ tb_ws := tb_in (i := 83) rfl rfl
theorem tl_X_47 : Cond.methodLink R_X 47 y_X_addColumn ∈ tb_ws := tb_in (i := 85) rfl rfl
theorem ti_X_addColumn : Cond.instanceMethod y_X_addColumn ∈ tb_ws := tb_in (i := 87) rfl rfl
theorem tl_law_22 : Cond.methodLink R_law 22 y_X_putA ∈ tb_ws := tb_in (i := 89) rfl rfl
theorem ti_X_putA : Cond.instanceMethod y_X_putA ∈ tb_ws := tb_in (i := 90) rfl rfl
theorem ts_X_putA : Cond.selects R_X y_X_putA y_X_putA ∈ tb_ws := tb_in (i := 91) rfl rfl
theorem tl_X_60 : Cond.methodLink R_X 60 y_X_combAgain ∈ tb_ws := tb_in (i := 93) rfl rfl
theorem ti_X_combAgain : Cond.instanceMethod y_X_combAgain ∈ tb_ws := tb_in (i := 95) rfl rfl
theorem tl_X_53 : Cond.methodLink R_X 53 y_X_combAll ∈ tb_ws := tb_in (i := 97) rfl rfl
theorem ti_X_combAll : Cond.instanceMethod y_X_combAll ∈ tb_ws := tb_in (i := 99) rfl rfl
theorem tl_law_27 : Cond.methodLink R_law 27 y_X_shiftB ∈ tb_ws := tb_in (i := 101) rfl rfl
theorem ti_X_shiftB : Cond.instanceMethod y_X_shiftB ∈ tb_ws := tb_in (i := 102) rfl rfl
theorem ts_X_shiftB : Cond.selects R_X y_X_shiftB y_X_shiftB ∈ tb_ws := tb_in (i := 103) rfl rfl
theorem tl_law_32 : Cond.methodLink R_law 32 y_X_clear ∈ tb_ws := tb_in (i := 105) rfl rfl
theorem ti_X_clear : Cond.instanceMethod y_X_clear ∈ tb_ws := tb_in (i := 106) rfl rfl
theorem ts_X_clear : Cond.selects R_X y_X_clear y_X_clear ∈ tb_ws := tb_in (i := 107) rfl rfl
theorem tl_law_36 : Cond.methodLink R_law 36 y_X_lengths ∈ tb_ws := tb_in (i := 109) rfl rfl
theorem ti_X_lengths : Cond.instanceMethod y_X_lengths ∈ tb_ws := tb_in (i := 110) rfl rfl
theorem ts_X_lengths : Cond.selects R_X y_X_lengths y_X_lengths ∈ tb_ws := tb_in (i := 111) rfl rfl
theorem tl_law_40 : Cond.methodLink R_law 40 y_X_commonB ∈ tb_ws := tb_in (i := 113) rfl rfl
theorem ti_X_commonB : Cond.instanceMethod y_X_commonB ∈ tb_ws := tb_in (i := 114) rfl rfl
theorem ts_X_commonB : Cond.selects R_X y_X_commonB y_X_commonB ∈ tb_ws := tb_in (i := 115) rfl rfl
theorem tl_X_63 : Cond.methodLink R_X 63 y_X_badStretch ∈ tb_ws := tb_in (i := 117) rfl rfl
theorem ti_X_badStretch : Cond.instanceMethod y_X_badStretch ∈ tb_ws := tb_in (i := 119) rfl rfl
theorem tl_X_67 : Cond.methodLink R_X 67 y_X_common ∈ tb_ws := tb_in (i := 121) rfl rfl
theorem ti_X_common : Cond.instanceMethod y_X_common ∈ tb_ws := tb_in (i := 123) rfl rfl
theorem tl_law_44 : Cond.methodLink R_law 44 y_X_commonA ∈ tb_ws := tb_in (i := 125) rfl rfl
theorem ti_X_commonA : Cond.instanceMethod y_X_commonA ∈ tb_ws := tb_in (i := 126) rfl rfl
theorem ts_X_commonA : Cond.selects R_X y_X_commonA y_X_commonA ∈ tb_ws := tb_in (i := 127) rfl rfl
theorem tl_X_71 : Cond.methodLink R_X 71 y_X_commonRows ∈ tb_ws := tb_in (i := 129) rfl rfl
theorem ti_X_commonRows : Cond.instanceMethod y_X_commonRows ∈ tb_ws := tb_in (i := 131) rfl rfl
theorem tl_law_48 : Cond.methodLink R_law 48 y_X_commonEnd ∈ tb_ws := tb_in (i := 133) rfl rfl
theorem ti_X_commonEnd : Cond.instanceMethod y_X_commonEnd ∈ tb_ws := tb_in (i := 134) rfl rfl
theorem ts_X_commonEnd : Cond.selects R_X y_X_commonEnd y_X_commonEnd ∈ tb_ws := tb_in (i := 135) rfl rfl
theorem tl_X_74 : Cond.methodLink R_X 74 y_X_badCounts ∈ tb_ws := tb_in (i := 137) rfl rfl
theorem ti_X_badCounts : Cond.instanceMethod y_X_badCounts ∈ tb_ws := tb_in (i := 139) rfl rfl
theorem tl_law_52 : Cond.methodLink R_law 52 y_X_commonBegin ∈ tb_ws := tb_in (i := 141) rfl rfl
theorem ti_X_commonBegin : Cond.instanceMethod y_X_commonBegin ∈ tb_ws := tb_in (i := 142) rfl rfl
theorem ts_X_commonBegin : Cond.selects R_X y_X_commonBegin y_X_commonBegin ∈ tb_ws := tb_in (i := 143) rfl rfl
theorem tl_law_56 : Cond.methodLink R_law 56 y_X_changesB ∈ tb_ws := tb_in (i := 145) rfl rfl
theorem ti_X_changesB : Cond.instanceMethod y_X_changesB ∈ tb_ws := tb_in (i := 146) rfl rfl
theorem ts_X_changesB : Cond.selects R_X y_X_changesB y_X_changesB ∈ tb_ws := tb_in (i := 147) rfl rfl
theorem tl_X_78 : Cond.methodLink R_X 78 y_X_changes ∈ tb_ws := tb_in (i := 149) rfl rfl
theorem ti_X_changes : Cond.instanceMethod y_X_changes ∈ tb_ws := tb_in (i := 151) rfl rfl
theorem tl_law_60 : Cond.methodLink R_law 60 y_X_changesA ∈ tb_ws := tb_in (i := 153) rfl rfl
theorem ti_X_changesA : Cond.instanceMethod y_X_changesA ∈ tb_ws := tb_in (i := 154) rfl rfl
theorem ts_X_changesA : Cond.selects R_X y_X_changesA y_X_changesA ∈ tb_ws := tb_in (i := 155) rfl rfl
theorem tl_law_64 : Cond.methodLink R_law 64 y_X_nearest ∈ tb_ws := tb_in (i := 157) rfl rfl
theorem ti_X_nearest : Cond.instanceMethod y_X_nearest ∈ tb_ws := tb_in (i := 158) rfl rfl
theorem ts_X_nearest : Cond.selects R_X y_X_nearest y_X_nearest ∈ tb_ws := tb_in (i := 159) rfl rfl
theorem tl_X_81 : Cond.methodLink R_X 81 y_X_nearestAt ∈ tb_ws := tb_in (i := 161) rfl rfl
theorem ti_X_nearestAt : Cond.instanceMethod y_X_nearestAt ∈ tb_ws := tb_in (i := 162) rfl rfl
theorem ts_X_nearestAt : Cond.selects R_X y_X_nearestAt y_X_nearestAt ∈ tb_ws := tb_in (i := 163) rfl rfl
theorem tl_law_68 : Cond.methodLink R_law 68 y_X_nearestAt ∈ tb_ws := tb_in (i := 165) rfl rfl
theorem tl_law_72 : Cond.methodLink R_law 72 y_X_shortest ∈ tb_ws := tb_in (i := 166) rfl rfl
theorem ti_X_shortest : Cond.instanceMethod y_X_shortest ∈ tb_ws := tb_in (i := 167) rfl rfl
theorem ts_X_shortest : Cond.selects R_X y_X_shortest y_X_shortest ∈ tb_ws := tb_in (i := 168) rfl rfl
theorem tl_X_85 : Cond.methodLink R_X 85 y_X_widestOf ∈ tb_ws := tb_in (i := 170) rfl rfl
theorem ti_X_widestOf : Cond.instanceMethod y_X_widestOf ∈ tb_ws := tb_in (i := 172) rfl rfl
theorem tl_law_76 : Cond.methodLink R_law 76 y_X_widest ∈ tb_ws := tb_in (i := 174) rfl rfl
theorem ti_X_widest : Cond.instanceMethod y_X_widest ∈ tb_ws := tb_in (i := 175) rfl rfl
theorem ts_X_widest : Cond.selects R_X y_X_widest y_X_widest ∈ tb_ws := tb_in (i := 176) rfl rfl
theorem tl_law_80 : Cond.methodLink R_law 80 y_X_rotated ∈ tb_ws := tb_in (i := 178) rfl rfl
theorem ti_X_rotated : Cond.instanceMethod y_X_rotated ∈ tb_ws := tb_in (i := 179) rfl rfl
theorem ts_X_rotated : Cond.selects R_X y_X_rotated y_X_rotated ∈ tb_ws := tb_in (i := 180) rfl rfl
theorem tl_law_84 : Cond.methodLink R_law 84 y_X_tight ∈ tb_ws := tb_in (i := 182) rfl rfl
theorem ti_X_tight : Cond.instanceMethod y_X_tight ∈ tb_ws := tb_in (i := 183) rfl rfl
theorem ts_X_tight : Cond.selects R_X y_X_tight y_X_tight ∈ tb_ws := tb_in (i := 184) rfl rfl
theorem tk_law_10 : Cond.classLink R_law 10 R_Y ∈ tb_ws := tb_in (i := 186) rfl rfl
theorem tq_Y : Cond.instantiable R_Y 6 ∈ tb_ws := tb_in (i := 187) rfl rfl
theorem tl_law_12 : Cond.methodLink R_law 12 y_Y_init ∈ tb_ws := tb_in (i := 188) rfl rfl
theorem ti_Y_init : Cond.instanceMethod y_Y_init ∈ tb_ws := tb_in (i := 189) rfl rfl
theorem tl_Y_1 : Cond.methodLink R_Y 1 objectInit ∈ tb_ws := tb_in (i := 191) rfl rfl
theorem tf_Y_a : Cond.fieldLink R_Y 7 "SeaweedWindowsModel" "a" "[I" ∈ tb_ws := tb_in (i := 192) rfl rfl
theorem tf_Y_b : Cond.fieldLink R_Y 13 "SeaweedWindowsModel" "b" "[I" ∈ tb_ws := tb_in (i := 193) rfl rfl
theorem tf_Y_m : Cond.fieldLink R_Y 26 "SeaweedWindowsModel" "m" "I" ∈ tb_ws := tb_in (i := 194) rfl rfl
theorem tf_Y_n : Cond.fieldLink R_Y 30 "SeaweedWindowsModel" "n" "I" ∈ tb_ws := tb_in (i := 195) rfl rfl
theorem tf_Y_table : Cond.fieldLink R_Y 16 "SeaweedWindowsModel" "table" "[I" ∈ tb_ws := tb_in (i := 196) rfl rfl
theorem tf_Y_of : Cond.fieldLink R_Y 19 "SeaweedWindowsModel" "of" "[I" ∈ tb_ws := tb_in (i := 197) rfl rfl
theorem tl_law_17 : Cond.methodLink R_law 17 y_Y_growA ∈ tb_ws := tb_in (i := 211) rfl rfl
theorem ti_Y_growA : Cond.instanceMethod y_Y_growA ∈ tb_ws := tb_in (i := 212) rfl rfl
theorem ts_Y_growA : Cond.selects R_Y y_Y_growA y_Y_growA ∈ tb_ws := tb_in (i := 213) rfl rfl
theorem tl_Y_22 : Cond.methodLink R_Y 22 y_Y_isLetter ∈ tb_ws := tb_in (i := 215) rfl rfl
theorem ti_Y_isLetter : Cond.instanceMethod y_Y_isLetter ∈ tb_ws := tb_in (i := 217) rfl rfl
theorem tl_law_21 : Cond.methodLink R_law 21 y_Y_growB ∈ tb_ws := tb_in (i := 219) rfl rfl
theorem ti_Y_growB : Cond.instanceMethod y_Y_growB ∈ tb_ws := tb_in (i := 220) rfl rfl
theorem ts_Y_growB : Cond.selects R_Y y_Y_growB y_Y_growB ∈ tb_ws := tb_in (i := 221) rfl rfl
theorem tl_law_26 : Cond.methodLink R_law 26 y_Y_putA ∈ tb_ws := tb_in (i := 223) rfl rfl
theorem ti_Y_putA : Cond.instanceMethod y_Y_putA ∈ tb_ws := tb_in (i := 224) rfl rfl
theorem ts_Y_putA : Cond.selects R_Y y_Y_putA y_Y_putA ∈ tb_ws := tb_in (i := 225) rfl rfl
theorem tl_law_31 : Cond.methodLink R_law 31 y_Y_shiftB ∈ tb_ws := tb_in (i := 227) rfl rfl
theorem ti_Y_shiftB : Cond.instanceMethod y_Y_shiftB ∈ tb_ws := tb_in (i := 228) rfl rfl
theorem ts_Y_shiftB : Cond.selects R_Y y_Y_shiftB y_Y_shiftB ∈ tb_ws := tb_in (i := 229) rfl rfl
theorem tl_law_35 : Cond.methodLink R_law 35 y_Y_clear ∈ tb_ws := tb_in (i := 231) rfl rfl
theorem ti_Y_clear : Cond.instanceMethod y_Y_clear ∈ tb_ws := tb_in (i := 232) rfl rfl
theorem ts_Y_clear : Cond.selects R_Y y_Y_clear y_Y_clear ∈ tb_ws := tb_in (i := 233) rfl rfl
theorem tl_law_39 : Cond.methodLink R_law 39 y_Y_lengths ∈ tb_ws := tb_in (i := 235) rfl rfl
theorem ti_Y_lengths : Cond.instanceMethod y_Y_lengths ∈ tb_ws := tb_in (i := 236) rfl rfl
theorem ts_Y_lengths : Cond.selects R_Y y_Y_lengths y_Y_lengths ∈ tb_ws := tb_in (i := 237) rfl rfl
theorem tl_law_43 : Cond.methodLink R_law 43 y_Y_commonB ∈ tb_ws := tb_in (i := 239) rfl rfl
theorem ti_Y_commonB : Cond.instanceMethod y_Y_commonB ∈ tb_ws := tb_in (i := 240) rfl rfl
theorem ts_Y_commonB : Cond.selects R_Y y_Y_commonB y_Y_commonB ∈ tb_ws := tb_in (i := 241) rfl rfl
theorem tl_Y_37 : Cond.methodLink R_Y 37 y_Y_isStretch ∈ tb_ws := tb_in (i := 243) rfl rfl
theorem ti_Y_isStretch : Cond.instanceMethod y_Y_isStretch ∈ tb_ws := tb_in (i := 245) rfl rfl
theorem tl_Y_41 : Cond.methodLink R_Y 41 y_Y_common ∈ tb_ws := tb_in (i := 247) rfl rfl
theorem ti_Y_common : Cond.instanceMethod y_Y_common ∈ tb_ws := tb_in (i := 249) rfl rfl
theorem tl_law_47 : Cond.methodLink R_law 47 y_Y_commonA ∈ tb_ws := tb_in (i := 251) rfl rfl
theorem ti_Y_commonA : Cond.instanceMethod y_Y_commonA ∈ tb_ws := tb_in (i := 252) rfl rfl
theorem ts_Y_commonA : Cond.selects R_Y y_Y_commonA y_Y_commonA ∈ tb_ws := tb_in (i := 253) rfl rfl
theorem tl_law_51 : Cond.methodLink R_law 51 y_Y_commonEnd ∈ tb_ws := tb_in (i := 255) rfl rfl
theorem ti_Y_commonEnd : Cond.instanceMethod y_Y_commonEnd ∈ tb_ws := tb_in (i := 256) rfl rfl
theorem ts_Y_commonEnd : Cond.selects R_Y y_Y_commonEnd y_Y_commonEnd ∈ tb_ws := tb_in (i := 257) rfl rfl
theorem tl_law_55 : Cond.methodLink R_law 55 y_Y_commonBegin ∈ tb_ws := tb_in (i := 259) rfl rfl
theorem ti_Y_commonBegin : Cond.instanceMethod y_Y_commonBegin ∈ tb_ws := tb_in (i := 260) rfl rfl
theorem ts_Y_commonBegin : Cond.selects R_Y y_Y_commonBegin y_Y_commonBegin ∈ tb_ws := tb_in (i := 261) rfl rfl
theorem tl_law_59 : Cond.methodLink R_law 59 y_Y_changesB ∈ tb_ws := tb_in (i := 263) rfl rfl
theorem ti_Y_changesB : Cond.instanceMethod y_Y_changesB ∈ tb_ws := tb_in (i := 264) rfl rfl
theorem ts_Y_changesB : Cond.selects R_Y y_Y_changesB y_Y_changesB ∈ tb_ws := tb_in (i := 265) rfl rfl
theorem tl_Y_45 : Cond.methodLink R_Y 45 y_Y_changes ∈ tb_ws := tb_in (i := 267) rfl rfl
theorem ti_Y_changes : Cond.instanceMethod y_Y_changes ∈ tb_ws := tb_in (i := 269) rfl rfl
theorem tl_Y_33 : Cond.methodLink R_Y 33 y_Y_least ∈ tb_ws := tb_in (i := 271) rfl rfl
theorem ti_Y_least : Cond.instanceMethod y_Y_least ∈ tb_ws := tb_in (i := 273) rfl rfl
theorem tl_law_63 : Cond.methodLink R_law 63 y_Y_changesA ∈ tb_ws := tb_in (i := 275) rfl rfl
theorem ti_Y_changesA : Cond.instanceMethod y_Y_changesA ∈ tb_ws := tb_in (i := 276) rfl rfl
theorem ts_Y_changesA : Cond.selects R_Y y_Y_changesA y_Y_changesA ∈ tb_ws := tb_in (i := 277) rfl rfl
theorem tl_law_67 : Cond.methodLink R_law 67 y_Y_nearest ∈ tb_ws := tb_in (i := 279) rfl rfl
theorem ti_Y_nearest : Cond.instanceMethod y_Y_nearest ∈ tb_ws := tb_in (i := 280) rfl rfl
theorem ts_Y_nearest : Cond.selects R_Y y_Y_nearest y_Y_nearest ∈ tb_ws := tb_in (i := 281) rfl rfl
theorem tl_law_71 : Cond.methodLink R_law 71 y_Y_nearestAt ∈ tb_ws := tb_in (i := 283) rfl rfl
theorem ti_Y_nearestAt : Cond.instanceMethod y_Y_nearestAt ∈ tb_ws := tb_in (i := 284) rfl rfl
theorem ts_Y_nearestAt : Cond.selects R_Y y_Y_nearestAt y_Y_nearestAt ∈ tb_ws := tb_in (i := 285) rfl rfl
theorem tl_Y_48 : Cond.methodLink R_Y 48 y_Y_nearest ∈ tb_ws := tb_in (i := 287) rfl rfl
theorem tl_law_75 : Cond.methodLink R_law 75 y_Y_shortest ∈ tb_ws := tb_in (i := 288) rfl rfl
theorem ti_Y_shortest : Cond.instanceMethod y_Y_shortest ∈ tb_ws := tb_in (i := 289) rfl rfl
theorem ts_Y_shortest : Cond.selects R_Y y_Y_shortest y_Y_shortest ∈ tb_ws := tb_in (i := 290) rfl rfl
theorem tl_Y_52 : Cond.methodLink R_Y 52 y_Y_widest ∈ tb_ws := tb_in (i := 292) rfl rfl
theorem ti_Y_widest : Cond.instanceMethod y_Y_widest ∈ tb_ws := tb_in (i := 293) rfl rfl
theorem ts_Y_widest : Cond.selects R_Y y_Y_widest y_Y_widest ∈ tb_ws := tb_in (i := 294) rfl rfl
theorem tl_law_79 : Cond.methodLink R_law 79 y_Y_widest ∈ tb_ws := tb_in (i := 296) rfl rfl
theorem tl_law_83 : Cond.methodLink R_law 83 y_Y_rotated ∈ tb_ws := tb_in (i := 297) rfl rfl
theorem ti_Y_rotated : Cond.instanceMethod y_Y_rotated ∈ tb_ws := tb_in (i := 298) rfl rfl
theorem ts_Y_rotated : Cond.selects R_Y y_Y_rotated y_Y_rotated ∈ tb_ws := tb_in (i := 299) rfl rfl
theorem tl_law_87 : Cond.methodLink R_law 87 y_Y_tight ∈ tb_ws := tb_in (i := 301) rfl rfl
theorem ti_Y_tight : Cond.instanceMethod y_Y_tight ∈ tb_ws := tb_in (i := 302) rfl rfl
theorem ts_Y_tight : Cond.selects R_Y y_Y_tight y_Y_tight ∈ tb_ws := tb_in (i := 303) rfl rfl
theorem tl_Y_56 : Cond.methodLink R_Y 56 y_Y_isTight ∈ tb_ws := tb_in (i := 305) rfl rfl
theorem ti_Y_isTight : Cond.instanceMethod y_Y_isTight ∈ tb_ws := tb_in (i := 307) rfl rfl
theorem tb_goodIn {own C : String} {idx n : Nat} {y : MethodName} {b : ByteArray} {ret : Option FieldType} (h1 : Cond.methodLink own idx y ∈ tb_ws) (h2 : Cond.instanceMethod y ∈ tb_ws) (h3 : Cond.selects C y y ∈ tb_ws) (h4 : Cond.initialized C ∈ tb_ws) (h5 : Cond.code y b n ret ∈ tb_ws) : GoodIn tb_ws (wsV own idx C y (Cond.code y b n ret :: tb_ws)) := by
  have hin : ∀ w ∈ wsV own idx C y (Cond.code y b n ret :: tb_ws), w ∈ tb_ws := by
    intro w hw
    simp only [wsV, List.cons_append, List.nil_append, List.mem_cons] at hw
    rcases hw with rfl | rfl | rfl | rfl | rfl | h
    · exact h1
    · exact h2
    · exact h3
    · exact h4
    · exact h5
    · exact h
  exact fun w hw => ⟨hin w hw, tb_good (hin w hw)⟩
theorem tb_goodI {n : Nat} {y : MethodName} {b : ByteArray} {ret : Option FieldType} (h5 : Cond.code y b n ret ∈ tb_ws) : GoodIn tb_ws (Cond.code y b n ret :: tb_ws) := by
  have hin : ∀ w ∈ Cond.code y b n ret :: tb_ws, w ∈ tb_ws := by
    intro w hw
    rcases List.mem_cons.mp hw with rfl | h
    · exact h5
    · exact h
  exact fun w hw => ⟨hin w hw, tb_good (hin w hw)⟩
end
section
/-! decode rows of X; printed by gen_names.py -/
theorem d_X_init_0 : decode b_X_init 0 = .ok (.aload_n 0, 1) := by decide +kernel
theorem d_X_init_1 : decode b_X_init 1 = .ok (.invokespecial 1, 3) := by decide +kernel
theorem d_X_init_4 : decode b_X_init 4 = .ok (.aload_n 0, 1) := by decide +kernel
theorem d_X_init_5 : decode b_X_init 5 = .ok (.bipush 10, 2) := by decide +kernel
theorem d_X_init_7 : decode b_X_init 7 = .ok (.newarray .int, 2) := by decide +kernel
theorem d_X_init_9 : decode b_X_init 9 = .ok (.putfield 7, 3) := by decide +kernel
theorem d_X_init_12 : decode b_X_init 12 = .ok (.aload_n 0, 1) := by decide +kernel
theorem d_X_init_13 : decode b_X_init 13 = .ok (.bipush 14, 2) := by decide +kernel
theorem d_X_init_15 : decode b_X_init 15 = .ok (.newarray .int, 2) := by decide +kernel
theorem d_X_init_17 : decode b_X_init 17 = .ok (.putfield 13, 3) := by decide +kernel
theorem d_X_init_20 : decode b_X_init 20 = .ok (.aload_n 0, 1) := by decide +kernel
theorem d_X_init_21 : decode b_X_init 21 = .ok (.iconst 3, 1) := by decide +kernel
theorem d_X_init_22 : decode b_X_init 22 = .ok (.newarray .int, 2) := by decide +kernel
theorem d_X_init_24 : decode b_X_init 24 = .ok (.putfield 16, 3) := by decide +kernel
theorem d_X_init_27 : decode b_X_init 27 = .ok (.aload_n 0, 1) := by decide +kernel
theorem d_X_init_28 : decode b_X_init 28 = .ok (.iconst 3, 1) := by decide +kernel
theorem d_X_init_29 : decode b_X_init 29 = .ok (.newarray .int, 2) := by decide +kernel
theorem d_X_init_31 : decode b_X_init 31 = .ok (.putfield 19, 3) := by decide +kernel
theorem d_X_init_34 : decode b_X_init 34 = .ok (.aload_n 0, 1) := by decide +kernel
theorem d_X_init_35 : decode b_X_init 35 = .ok (.bipush 60, 2) := by decide +kernel
theorem d_X_init_37 : decode b_X_init 37 = .ok (.newarray .int, 2) := by decide +kernel
theorem d_X_init_39 : decode b_X_init 39 = .ok (.putfield 22, 3) := by decide +kernel
theorem d_X_init_42 : decode b_X_init 42 = .ok (.aload_n 0, 1) := by decide +kernel
theorem d_X_init_43 : decode b_X_init 43 = .ok (.bipush 84, 2) := by decide +kernel
theorem d_X_init_45 : decode b_X_init 45 = .ok (.newarray .int, 2) := by decide +kernel
theorem d_X_init_47 : decode b_X_init 47 = .ok (.putfield 25, 3) := by decide +kernel
theorem d_X_init_50 : decode b_X_init 50 = .ok (.return_, 1) := by decide +kernel
theorem d_X_letterA_0 : decode b_X_letterA 0 = .ok (.iload_n 1, 1) := by decide +kernel
theorem d_X_letterA_1 : decode b_X_letterA 1 = .ok (.iconst 1, 1) := by decide +kernel
theorem d_X_letterA_2 : decode b_X_letterA 2 = .ok (.if_icmp .eq 10, 3) := by decide +kernel
theorem d_X_letterA_5 : decode b_X_letterA 5 = .ok (.aload_n 0, 1) := by decide +kernel
theorem d_X_letterA_6 : decode b_X_letterA 6 = .ok (.getfield 7, 3) := by decide +kernel
theorem d_X_letterA_9 : decode b_X_letterA 9 = .ok (.iload_n 2, 1) := by decide +kernel
theorem d_X_letterA_10 : decode b_X_letterA 10 = .ok (.iaload, 1) := by decide +kernel
theorem d_X_letterA_11 : decode b_X_letterA 11 = .ok (.ireturn, 1) := by decide +kernel
theorem d_X_letterA_12 : decode b_X_letterA 12 = .ok (.iload_n 2, 1) := by decide +kernel
theorem d_X_letterA_13 : decode b_X_letterA 13 = .ok (.iconst 1, 1) := by decide +kernel
theorem d_X_letterA_14 : decode b_X_letterA 14 = .ok (.iand, 1) := by decide +kernel
theorem d_X_letterA_15 : decode b_X_letterA 15 = .ok (.ifCond .ne 8, 3) := by decide +kernel
theorem d_X_letterA_18 : decode b_X_letterA 18 = .ok (.bipush 9, 2) := by decide +kernel
theorem d_X_letterA_20 : decode b_X_letterA 20 = .ok (.goto 11, 3) := by decide +kernel
theorem d_X_letterA_23 : decode b_X_letterA 23 = .ok (.aload_n 0, 1) := by decide +kernel
theorem d_X_letterA_24 : decode b_X_letterA 24 = .ok (.getfield 7, 3) := by decide +kernel
theorem d_X_letterA_27 : decode b_X_letterA 27 = .ok (.iload_n 2, 1) := by decide +kernel
theorem d_X_letterA_28 : decode b_X_letterA 28 = .ok (.iconst 1, 1) := by decide +kernel
theorem d_X_letterA_29 : decode b_X_letterA 29 = .ok (.ishr, 1) := by decide +kernel
theorem d_X_letterA_30 : decode b_X_letterA 30 = .ok (.iaload, 1) := by decide +kernel
theorem d_X_letterA_31 : decode b_X_letterA 31 = .ok (.ireturn, 1) := by decide +kernel
theorem d_X_letterB_0 : decode b_X_letterB 0 = .ok (.iload_n 1, 1) := by decide +kernel
theorem d_X_letterB_1 : decode b_X_letterB 1 = .ok (.ifCond .ne 10, 3) := by decide +kernel
theorem d_X_letterB_4 : decode b_X_letterB 4 = .ok (.aload_n 0, 1) := by decide +kernel
theorem d_X_letterB_5 : decode b_X_letterB 5 = .ok (.getfield 13, 3) := by decide +kernel
theorem d_X_letterB_8 : decode b_X_letterB 8 = .ok (.iload_n 2, 1) := by decide +kernel
theorem d_X_letterB_9 : decode b_X_letterB 9 = .ok (.iaload, 1) := by decide +kernel
theorem d_X_letterB_10 : decode b_X_letterB 10 = .ok (.ireturn, 1) := by decide +kernel
theorem d_X_letterB_11 : decode b_X_letterB 11 = .ok (.iload_n 1, 1) := by decide +kernel
theorem d_X_letterB_12 : decode b_X_letterB 12 = .ok (.iconst 1, 1) := by decide +kernel
theorem d_X_letterB_13 : decode b_X_letterB 13 = .ok (.if_icmp .ne 23, 3) := by decide +kernel
theorem d_X_letterB_16 : decode b_X_letterB 16 = .ok (.iload_n 2, 1) := by decide +kernel
theorem d_X_letterB_17 : decode b_X_letterB 17 = .ok (.iconst 1, 1) := by decide +kernel
theorem d_X_letterB_18 : decode b_X_letterB 18 = .ok (.iand, 1) := by decide +kernel
theorem d_X_letterB_19 : decode b_X_letterB 19 = .ok (.ifCond .ne 8, 3) := by decide +kernel
theorem d_X_letterB_22 : decode b_X_letterB 22 = .ok (.bipush 9, 2) := by decide +kernel
theorem d_X_letterB_24 : decode b_X_letterB 24 = .ok (.goto 11, 3) := by decide +kernel
theorem d_X_letterB_27 : decode b_X_letterB 27 = .ok (.aload_n 0, 1) := by decide +kernel
theorem d_X_letterB_28 : decode b_X_letterB 28 = .ok (.getfield 13, 3) := by decide +kernel
theorem d_X_letterB_31 : decode b_X_letterB 31 = .ok (.iload_n 2, 1) := by decide +kernel
theorem d_X_letterB_32 : decode b_X_letterB 32 = .ok (.iconst 1, 1) := by decide +kernel
theorem d_X_letterB_33 : decode b_X_letterB 33 = .ok (.ishr, 1) := by decide +kernel
theorem d_X_letterB_34 : decode b_X_letterB 34 = .ok (.iaload, 1) := by decide +kernel
theorem d_X_letterB_35 : decode b_X_letterB 35 = .ok (.ireturn, 1) := by decide +kernel
theorem d_X_letterB_36 : decode b_X_letterB 36 = .ok (.aload_n 0, 1) := by decide +kernel
theorem d_X_letterB_37 : decode b_X_letterB 37 = .ok (.getfield 13, 3) := by decide +kernel
theorem d_X_letterB_40 : decode b_X_letterB 40 = .ok (.iload_n 2, 1) := by decide +kernel
theorem d_X_letterB_41 : decode b_X_letterB 41 = .ok (.aload_n 0, 1) := by decide +kernel
theorem d_X_letterB_42 : decode b_X_letterB 42 = .ok (.getfield 28, 3) := by decide +kernel
theorem d_X_letterB_45 : decode b_X_letterB 45 = .ok (.if_icmp .ge 7, 3) := by decide +kernel
theorem d_X_letterB_48 : decode b_X_letterB 48 = .ok (.iload_n 2, 1) := by decide +kernel
theorem d_X_letterB_49 : decode b_X_letterB 49 = .ok (.goto 9, 3) := by decide +kernel
theorem d_X_letterB_52 : decode b_X_letterB 52 = .ok (.iload_n 2, 1) := by decide +kernel
theorem d_X_letterB_53 : decode b_X_letterB 53 = .ok (.aload_n 0, 1) := by decide +kernel
theorem d_X_letterB_54 : decode b_X_letterB 54 = .ok (.getfield 28, 3) := by decide +kernel
theorem d_X_letterB_57 : decode b_X_letterB 57 = .ok (.isub, 1) := by decide +kernel
theorem d_X_letterB_58 : decode b_X_letterB 58 = .ok (.iaload, 1) := by decide +kernel
theorem d_X_letterB_59 : decode b_X_letterB 59 = .ok (.ireturn, 1) := by decide +kernel
theorem d_X_cell_0 : decode b_X_cell 0 = .ok (.aload_n 0, 1) := by decide +kernel
theorem d_X_cell_1 : decode b_X_cell 1 = .ok (.getfield 22, 3) := by decide +kernel
theorem d_X_cell_4 : decode b_X_cell 4 = .ok (.iload_n 1, 1) := by decide +kernel
theorem d_X_cell_5 : decode b_X_cell 5 = .ok (.bipush 20, 2) := by decide +kernel
theorem d_X_cell_7 : decode b_X_cell 7 = .ok (.imul, 1) := by decide +kernel
theorem d_X_cell_8 : decode b_X_cell 8 = .ok (.iload_n 2, 1) := by decide +kernel
theorem d_X_cell_9 : decode b_X_cell 9 = .ok (.iadd, 1) := by decide +kernel
theorem d_X_cell_10 : decode b_X_cell 10 = .ok (.iaload, 1) := by decide +kernel
theorem d_X_cell_11 : decode b_X_cell 11 = .ok (.istore 4, 2) := by decide +kernel
theorem d_X_cell_13 : decode b_X_cell 13 = .ok (.aload_n 0, 1) := by decide +kernel
theorem d_X_cell_14 : decode b_X_cell 14 = .ok (.getfield 25, 3) := by decide +kernel
theorem d_X_cell_17 : decode b_X_cell 17 = .ok (.iload_n 1, 1) := by decide +kernel
theorem d_X_cell_18 : decode b_X_cell 18 = .ok (.bipush 28, 2) := by decide +kernel
theorem d_X_cell_20 : decode b_X_cell 20 = .ok (.imul, 1) := by decide +kernel
theorem d_X_cell_21 : decode b_X_cell 21 = .ok (.iload_n 3, 1) := by decide +kernel
theorem d_X_cell_22 : decode b_X_cell 22 = .ok (.iadd, 1) := by decide +kernel
theorem d_X_cell_23 : decode b_X_cell 23 = .ok (.iaload, 1) := by decide +kernel
theorem d_X_cell_24 : decode b_X_cell 24 = .ok (.istore 5, 2) := by decide +kernel
theorem d_X_cell_26 : decode b_X_cell 26 = .ok (.aload_n 0, 1) := by decide +kernel
theorem d_X_cell_27 : decode b_X_cell 27 = .ok (.iload_n 1, 1) := by decide +kernel
theorem d_X_cell_28 : decode b_X_cell 28 = .ok (.iload_n 2, 1) := by decide +kernel
theorem d_X_cell_29 : decode b_X_cell 29 = .ok (.invokevirtual 32, 3) := by decide +kernel
theorem d_X_cell_32 : decode b_X_cell 32 = .ok (.istore 6, 2) := by decide +kernel
theorem d_X_cell_34 : decode b_X_cell 34 = .ok (.aload_n 0, 1) := by decide +kernel
theorem d_X_cell_35 : decode b_X_cell 35 = .ok (.iload_n 1, 1) := by decide +kernel
theorem d_X_cell_36 : decode b_X_cell 36 = .ok (.iload_n 3, 1) := by decide +kernel
theorem d_X_cell_37 : decode b_X_cell 37 = .ok (.invokevirtual 36, 3) := by decide +kernel
theorem d_X_cell_40 : decode b_X_cell 40 = .ok (.istore 7, 2) := by decide +kernel
theorem d_X_cell_42 : decode b_X_cell 42 = .ok (.iload 6, 2) := by decide +kernel
theorem d_X_cell_44 : decode b_X_cell 44 = .ok (.iload 7, 2) := by decide +kernel
theorem d_X_cell_46 : decode b_X_cell 46 = .ok (.if_icmp .eq 10, 3) := by decide +kernel
theorem d_X_cell_49 : decode b_X_cell 49 = .ok (.iload 4, 2) := by decide +kernel
theorem d_X_cell_51 : decode b_X_cell 51 = .ok (.iload 5, 2) := by decide +kernel
theorem d_X_cell_53 : decode b_X_cell 53 = .ok (.if_icmp .le 29, 3) := by decide +kernel
theorem d_X_cell_56 : decode b_X_cell 56 = .ok (.aload_n 0, 1) := by decide +kernel
theorem d_X_cell_57 : decode b_X_cell 57 = .ok (.getfield 22, 3) := by decide +kernel
theorem d_X_cell_60 : decode b_X_cell 60 = .ok (.iload_n 1, 1) := by decide +kernel
theorem d_X_cell_61 : decode b_X_cell 61 = .ok (.bipush 20, 2) := by decide +kernel
theorem d_X_cell_63 : decode b_X_cell 63 = .ok (.imul, 1) := by decide +kernel
theorem d_X_cell_64 : decode b_X_cell 64 = .ok (.iload_n 2, 1) := by decide +kernel
theorem d_X_cell_65 : decode b_X_cell 65 = .ok (.iadd, 1) := by decide +kernel
theorem d_X_cell_66 : decode b_X_cell 66 = .ok (.iload 5, 2) := by decide +kernel
theorem d_X_cell_68 : decode b_X_cell 68 = .ok (.iastore, 1) := by decide +kernel
theorem d_X_cell_69 : decode b_X_cell 69 = .ok (.aload_n 0, 1) := by decide +kernel
theorem d_X_cell_70 : decode b_X_cell 70 = .ok (.getfield 25, 3) := by decide +kernel
theorem d_X_cell_73 : decode b_X_cell 73 = .ok (.iload_n 1, 1) := by decide +kernel
theorem d_X_cell_74 : decode b_X_cell 74 = .ok (.bipush 28, 2) := by decide +kernel
theorem d_X_cell_76 : decode b_X_cell 76 = .ok (.imul, 1) := by decide +kernel
theorem d_X_cell_77 : decode b_X_cell 77 = .ok (.iload_n 3, 1) := by decide +kernel
theorem d_X_cell_78 : decode b_X_cell 78 = .ok (.iadd, 1) := by decide +kernel
theorem d_X_cell_79 : decode b_X_cell 79 = .ok (.iload 4, 2) := by decide +kernel
theorem d_X_cell_81 : decode b_X_cell 81 = .ok (.iastore, 1) := by decide +kernel
theorem d_X_cell_82 : decode b_X_cell 82 = .ok (.return_, 1) := by decide +kernel
theorem d_X_addRow_0 : decode b_X_addRow 0 = .ok (.aload_n 0, 1) := by decide +kernel
theorem d_X_addRow_1 : decode b_X_addRow 1 = .ok (.getfield 16, 3) := by decide +kernel
theorem d_X_addRow_4 : decode b_X_addRow 4 = .ok (.iload_n 1, 1) := by decide +kernel
theorem d_X_addRow_5 : decode b_X_addRow 5 = .ok (.iaload, 1) := by decide +kernel
theorem d_X_addRow_6 : decode b_X_addRow 6 = .ok (.istore_n 2, 1) := by decide +kernel
theorem d_X_addRow_7 : decode b_X_addRow 7 = .ok (.aload_n 0, 1) := by decide +kernel
theorem d_X_addRow_8 : decode b_X_addRow 8 = .ok (.getfield 22, 3) := by decide +kernel
theorem d_X_addRow_11 : decode b_X_addRow 11 = .ok (.iload_n 1, 1) := by decide +kernel
theorem d_X_addRow_12 : decode b_X_addRow 12 = .ok (.bipush 20, 2) := by decide +kernel
theorem d_X_addRow_14 : decode b_X_addRow 14 = .ok (.imul, 1) := by decide +kernel
theorem d_X_addRow_15 : decode b_X_addRow 15 = .ok (.iload_n 2, 1) := by decide +kernel
theorem d_X_addRow_16 : decode b_X_addRow 16 = .ok (.iadd, 1) := by decide +kernel
theorem d_X_addRow_17 : decode b_X_addRow 17 = .ok (.iconst (-1), 1) := by decide +kernel
theorem d_X_addRow_18 : decode b_X_addRow 18 = .ok (.iload_n 2, 1) := by decide +kernel
theorem d_X_addRow_19 : decode b_X_addRow 19 = .ok (.isub, 1) := by decide +kernel
theorem d_X_addRow_20 : decode b_X_addRow 20 = .ok (.iastore, 1) := by decide +kernel
theorem d_X_addRow_21 : decode b_X_addRow 21 = .ok (.aload_n 0, 1) := by decide +kernel
theorem d_X_addRow_22 : decode b_X_addRow 22 = .ok (.getfield 16, 3) := by decide +kernel
theorem d_X_addRow_25 : decode b_X_addRow 25 = .ok (.iload_n 1, 1) := by decide +kernel
theorem d_X_addRow_26 : decode b_X_addRow 26 = .ok (.iload_n 2, 1) := by decide +kernel
theorem d_X_addRow_27 : decode b_X_addRow 27 = .ok (.iconst 1, 1) := by decide +kernel
theorem d_X_addRow_28 : decode b_X_addRow 28 = .ok (.iadd, 1) := by decide +kernel
theorem d_X_addRow_29 : decode b_X_addRow 29 = .ok (.iastore, 1) := by decide +kernel
theorem d_X_addRow_30 : decode b_X_addRow 30 = .ok (.iconst 0, 1) := by decide +kernel
theorem d_X_addRow_31 : decode b_X_addRow 31 = .ok (.istore_n 3, 1) := by decide +kernel
theorem d_X_addRow_32 : decode b_X_addRow 32 = .ok (.iload_n 3, 1) := by decide +kernel
theorem d_X_addRow_33 : decode b_X_addRow 33 = .ok (.aload_n 0, 1) := by decide +kernel
theorem d_X_addRow_34 : decode b_X_addRow 34 = .ok (.getfield 19, 3) := by decide +kernel
theorem d_X_addRow_37 : decode b_X_addRow 37 = .ok (.iload_n 1, 1) := by decide +kernel
theorem d_X_addRow_38 : decode b_X_addRow 38 = .ok (.iaload, 1) := by decide +kernel
theorem d_X_addRow_39 : decode b_X_addRow 39 = .ok (.if_icmp .ge 16, 3) := by decide +kernel
theorem d_X_addRow_42 : decode b_X_addRow 42 = .ok (.aload_n 0, 1) := by decide +kernel
theorem d_X_addRow_43 : decode b_X_addRow 43 = .ok (.iload_n 1, 1) := by decide +kernel
theorem d_X_addRow_44 : decode b_X_addRow 44 = .ok (.iload_n 2, 1) := by decide +kernel
theorem d_X_addRow_45 : decode b_X_addRow 45 = .ok (.iload_n 3, 1) := by decide +kernel
theorem d_X_addRow_46 : decode b_X_addRow 46 = .ok (.invokevirtual 39, 3) := by decide +kernel
theorem d_X_addRow_49 : decode b_X_addRow 49 = .ok (.iinc 3 1, 3) := by decide +kernel
theorem d_X_addRow_52 : decode b_X_addRow 52 = .ok (.goto (-20), 3) := by decide +kernel
theorem d_X_addRow_55 : decode b_X_addRow 55 = .ok (.return_, 1) := by decide +kernel
theorem d_X_addColumn_0 : decode b_X_addColumn 0 = .ok (.aload_n 0, 1) := by decide +kernel
theorem d_X_addColumn_1 : decode b_X_addColumn 1 = .ok (.getfield 19, 3) := by decide +kernel
theorem d_X_addColumn_4 : decode b_X_addColumn 4 = .ok (.iload_n 1, 1) := by decide +kernel
theorem d_X_addColumn_5 : decode b_X_addColumn 5 = .ok (.iaload, 1) := by decide +kernel
theorem d_X_addColumn_6 : decode b_X_addColumn 6 = .ok (.istore_n 2, 1) := by decide +kernel
theorem d_X_addColumn_7 : decode b_X_addColumn 7 = .ok (.aload_n 0, 1) := by decide +kernel
theorem d_X_addColumn_8 : decode b_X_addColumn 8 = .ok (.getfield 25, 3) := by decide +kernel
theorem d_X_addColumn_11 : decode b_X_addColumn 11 = .ok (.iload_n 1, 1) := by decide +kernel
theorem d_X_addColumn_12 : decode b_X_addColumn 12 = .ok (.bipush 28, 2) := by decide +kernel
theorem d_X_addColumn_14 : decode b_X_addColumn 14 = .ok (.imul, 1) := by decide +kernel
theorem d_X_addColumn_15 : decode b_X_addColumn 15 = .ok (.iload_n 2, 1) := by decide +kernel
theorem d_X_addColumn_16 : decode b_X_addColumn 16 = .ok (.iadd, 1) := by decide +kernel
theorem d_X_addColumn_17 : decode b_X_addColumn 17 = .ok (.iload_n 2, 1) := by decide +kernel
theorem d_X_addColumn_18 : decode b_X_addColumn 18 = .ok (.iastore, 1) := by decide +kernel
theorem d_X_addColumn_19 : decode b_X_addColumn 19 = .ok (.aload_n 0, 1) := by decide +kernel
theorem d_X_addColumn_20 : decode b_X_addColumn 20 = .ok (.getfield 19, 3) := by decide +kernel
theorem d_X_addColumn_23 : decode b_X_addColumn 23 = .ok (.iload_n 1, 1) := by decide +kernel
theorem d_X_addColumn_24 : decode b_X_addColumn 24 = .ok (.iload_n 2, 1) := by decide +kernel
theorem d_X_addColumn_25 : decode b_X_addColumn 25 = .ok (.iconst 1, 1) := by decide +kernel
theorem d_X_addColumn_26 : decode b_X_addColumn 26 = .ok (.iadd, 1) := by decide +kernel
theorem d_X_addColumn_27 : decode b_X_addColumn 27 = .ok (.iastore, 1) := by decide +kernel
theorem d_X_addColumn_28 : decode b_X_addColumn 28 = .ok (.iconst 0, 1) := by decide +kernel
theorem d_X_addColumn_29 : decode b_X_addColumn 29 = .ok (.istore_n 3, 1) := by decide +kernel
theorem d_X_addColumn_30 : decode b_X_addColumn 30 = .ok (.iload_n 3, 1) := by decide +kernel
theorem d_X_addColumn_31 : decode b_X_addColumn 31 = .ok (.aload_n 0, 1) := by decide +kernel
theorem d_X_addColumn_32 : decode b_X_addColumn 32 = .ok (.getfield 16, 3) := by decide +kernel
theorem d_X_addColumn_35 : decode b_X_addColumn 35 = .ok (.iload_n 1, 1) := by decide +kernel
theorem d_X_addColumn_36 : decode b_X_addColumn 36 = .ok (.iaload, 1) := by decide +kernel
theorem d_X_addColumn_37 : decode b_X_addColumn 37 = .ok (.if_icmp .ge 16, 3) := by decide +kernel
theorem d_X_addColumn_40 : decode b_X_addColumn 40 = .ok (.aload_n 0, 1) := by decide +kernel
theorem d_X_addColumn_41 : decode b_X_addColumn 41 = .ok (.iload_n 1, 1) := by decide +kernel
theorem d_X_addColumn_42 : decode b_X_addColumn 42 = .ok (.iload_n 3, 1) := by decide +kernel
theorem d_X_addColumn_43 : decode b_X_addColumn 43 = .ok (.iload_n 2, 1) := by decide +kernel
theorem d_X_addColumn_44 : decode b_X_addColumn 44 = .ok (.invokevirtual 39, 3) := by decide +kernel
theorem d_X_addColumn_47 : decode b_X_addColumn 47 = .ok (.iinc 3 1, 3) := by decide +kernel
theorem d_X_addColumn_50 : decode b_X_addColumn 50 = .ok (.goto (-20), 3) := by decide +kernel
theorem d_X_addColumn_53 : decode b_X_addColumn 53 = .ok (.return_, 1) := by decide +kernel
theorem d_X_combAll_0 : decode b_X_combAll 0 = .ok (.aload_n 0, 1) := by decide +kernel
theorem d_X_combAll_1 : decode b_X_combAll 1 = .ok (.getfield 16, 3) := by decide +kernel
theorem d_X_combAll_4 : decode b_X_combAll 4 = .ok (.iload_n 1, 1) := by decide +kernel
theorem d_X_combAll_5 : decode b_X_combAll 5 = .ok (.iconst 0, 1) := by decide +kernel
theorem d_X_combAll_6 : decode b_X_combAll 6 = .ok (.iastore, 1) := by decide +kernel
theorem d_X_combAll_7 : decode b_X_combAll 7 = .ok (.aload_n 0, 1) := by decide +kernel
theorem d_X_combAll_8 : decode b_X_combAll 8 = .ok (.getfield 19, 3) := by decide +kernel
theorem d_X_combAll_11 : decode b_X_combAll 11 = .ok (.iload_n 1, 1) := by decide +kernel
theorem d_X_combAll_12 : decode b_X_combAll 12 = .ok (.iconst 0, 1) := by decide +kernel
theorem d_X_combAll_13 : decode b_X_combAll 13 = .ok (.iastore, 1) := by decide +kernel
theorem d_X_combAll_14 : decode b_X_combAll 14 = .ok (.iconst 0, 1) := by decide +kernel
theorem d_X_combAll_15 : decode b_X_combAll 15 = .ok (.istore 4, 2) := by decide +kernel
theorem d_X_combAll_17 : decode b_X_combAll 17 = .ok (.iload 4, 2) := by decide +kernel
theorem d_X_combAll_19 : decode b_X_combAll 19 = .ok (.iload_n 2, 1) := by decide +kernel
theorem d_X_combAll_20 : decode b_X_combAll 20 = .ok (.if_icmp .ge 14, 3) := by decide +kernel
theorem d_X_combAll_23 : decode b_X_combAll 23 = .ok (.aload_n 0, 1) := by decide +kernel
theorem d_X_combAll_24 : decode b_X_combAll 24 = .ok (.iload_n 1, 1) := by decide +kernel
theorem d_X_combAll_25 : decode b_X_combAll 25 = .ok (.invokevirtual 43, 3) := by decide +kernel
theorem d_X_combAll_28 : decode b_X_combAll 28 = .ok (.iinc 4 1, 3) := by decide +kernel
theorem d_X_combAll_31 : decode b_X_combAll 31 = .ok (.goto (-14), 3) := by decide +kernel
theorem d_X_combAll_34 : decode b_X_combAll 34 = .ok (.iconst 0, 1) := by decide +kernel
theorem d_X_combAll_35 : decode b_X_combAll 35 = .ok (.istore 4, 2) := by decide +kernel
theorem d_X_combAll_37 : decode b_X_combAll 37 = .ok (.iload 4, 2) := by decide +kernel
theorem d_X_combAll_39 : decode b_X_combAll 39 = .ok (.iload_n 3, 1) := by decide +kernel
theorem d_X_combAll_40 : decode b_X_combAll 40 = .ok (.if_icmp .ge 14, 3) := by decide +kernel
theorem d_X_combAll_43 : decode b_X_combAll 43 = .ok (.aload_n 0, 1) := by decide +kernel
theorem d_X_combAll_44 : decode b_X_combAll 44 = .ok (.iload_n 1, 1) := by decide +kernel
theorem d_X_combAll_45 : decode b_X_combAll 45 = .ok (.invokevirtual 47, 3) := by decide +kernel
theorem d_X_combAll_48 : decode b_X_combAll 48 = .ok (.iinc 4 1, 3) := by decide +kernel
theorem d_X_combAll_51 : decode b_X_combAll 51 = .ok (.goto (-14), 3) := by decide +kernel
theorem d_X_combAll_54 : decode b_X_combAll 54 = .ok (.return_, 1) := by decide +kernel
theorem d_X_combAgain_0 : decode b_X_combAgain 0 = .ok (.aload_n 0, 1) := by decide +kernel
theorem d_X_combAgain_1 : decode b_X_combAgain 1 = .ok (.iconst 0, 1) := by decide +kernel
theorem d_X_combAgain_2 : decode b_X_combAgain 2 = .ok (.aload_n 0, 1) := by decide +kernel
theorem d_X_combAgain_3 : decode b_X_combAgain 3 = .ok (.getfield 50, 3) := by decide +kernel
theorem d_X_combAgain_6 : decode b_X_combAgain 6 = .ok (.aload_n 0, 1) := by decide +kernel
theorem d_X_combAgain_7 : decode b_X_combAgain 7 = .ok (.getfield 28, 3) := by decide +kernel
theorem d_X_combAgain_10 : decode b_X_combAgain 10 = .ok (.invokevirtual 53, 3) := by decide +kernel
theorem d_X_combAgain_13 : decode b_X_combAgain 13 = .ok (.aload_n 0, 1) := by decide +kernel
theorem d_X_combAgain_14 : decode b_X_combAgain 14 = .ok (.iconst 1, 1) := by decide +kernel
theorem d_X_combAgain_15 : decode b_X_combAgain 15 = .ok (.iconst 2, 1) := by decide +kernel
theorem d_X_combAgain_16 : decode b_X_combAgain 16 = .ok (.aload_n 0, 1) := by decide +kernel
theorem d_X_combAgain_17 : decode b_X_combAgain 17 = .ok (.getfield 50, 3) := by decide +kernel
theorem d_X_combAgain_20 : decode b_X_combAgain 20 = .ok (.imul, 1) := by decide +kernel
theorem d_X_combAgain_21 : decode b_X_combAgain 21 = .ok (.iconst 2, 1) := by decide +kernel
theorem d_X_combAgain_22 : decode b_X_combAgain 22 = .ok (.aload_n 0, 1) := by decide +kernel
theorem d_X_combAgain_23 : decode b_X_combAgain 23 = .ok (.getfield 28, 3) := by decide +kernel
theorem d_X_combAgain_26 : decode b_X_combAgain 26 = .ok (.imul, 1) := by decide +kernel
theorem d_X_combAgain_27 : decode b_X_combAgain 27 = .ok (.invokevirtual 53, 3) := by decide +kernel
theorem d_X_combAgain_30 : decode b_X_combAgain 30 = .ok (.return_, 1) := by decide +kernel
theorem d_X_common_0 : decode b_X_common 0 = .ok (.iconst 0, 1) := by decide +kernel
theorem d_X_common_1 : decode b_X_common 1 = .ok (.istore 4, 2) := by decide +kernel
theorem d_X_common_3 : decode b_X_common 3 = .ok (.aload_n 0, 1) := by decide +kernel
theorem d_X_common_4 : decode b_X_common 4 = .ok (.getfield 19, 3) := by decide +kernel
theorem d_X_common_7 : decode b_X_common 7 = .ok (.iload_n 1, 1) := by decide +kernel
theorem d_X_common_8 : decode b_X_common 8 = .ok (.iaload, 1) := by decide +kernel
theorem d_X_common_9 : decode b_X_common 9 = .ok (.aload_n 0, 1) := by decide +kernel
theorem d_X_common_10 : decode b_X_common 10 = .ok (.getfield 16, 3) := by decide +kernel
theorem d_X_common_13 : decode b_X_common 13 = .ok (.iload_n 1, 1) := by decide +kernel
theorem d_X_common_14 : decode b_X_common 14 = .ok (.iaload, 1) := by decide +kernel
theorem d_X_common_15 : decode b_X_common 15 = .ok (.iadd, 1) := by decide +kernel
theorem d_X_common_16 : decode b_X_common 16 = .ok (.iconst 1, 1) := by decide +kernel
theorem d_X_common_17 : decode b_X_common 17 = .ok (.isub, 1) := by decide +kernel
theorem d_X_common_18 : decode b_X_common 18 = .ok (.istore 5, 2) := by decide +kernel
theorem d_X_common_20 : decode b_X_common 20 = .ok (.iconst 0, 1) := by decide +kernel
theorem d_X_common_21 : decode b_X_common 21 = .ok (.istore 6, 2) := by decide +kernel
theorem d_X_common_23 : decode b_X_common 23 = .ok (.iload 6, 2) := by decide +kernel
theorem d_X_common_25 : decode b_X_common 25 = .ok (.aload_n 0, 1) := by decide +kernel
theorem d_X_common_26 : decode b_X_common 26 = .ok (.getfield 19, 3) := by decide +kernel
theorem d_X_common_29 : decode b_X_common 29 = .ok (.iload_n 1, 1) := by decide +kernel
theorem d_X_common_30 : decode b_X_common 30 = .ok (.iaload, 1) := by decide +kernel
theorem d_X_common_31 : decode b_X_common 31 = .ok (.if_icmp .ge 34, 3) := by decide +kernel
theorem d_X_common_34 : decode b_X_common 34 = .ok (.aload_n 0, 1) := by decide +kernel
theorem d_X_common_35 : decode b_X_common 35 = .ok (.getfield 25, 3) := by decide +kernel
theorem d_X_common_38 : decode b_X_common 38 = .ok (.iload_n 1, 1) := by decide +kernel
theorem d_X_common_39 : decode b_X_common 39 = .ok (.bipush 28, 2) := by decide +kernel
theorem d_X_common_41 : decode b_X_common 41 = .ok (.imul, 1) := by decide +kernel
theorem d_X_common_42 : decode b_X_common 42 = .ok (.iload 6, 2) := by decide +kernel
theorem d_X_common_44 : decode b_X_common 44 = .ok (.iadd, 1) := by decide +kernel
theorem d_X_common_45 : decode b_X_common 45 = .ok (.iaload, 1) := by decide +kernel
theorem d_X_common_46 : decode b_X_common 46 = .ok (.iload_n 2, 1) := by decide +kernel
theorem d_X_common_47 : decode b_X_common 47 = .ok (.if_icmp .lt 12, 3) := by decide +kernel
theorem d_X_common_50 : decode b_X_common 50 = .ok (.iload 6, 2) := by decide +kernel
theorem d_X_common_52 : decode b_X_common 52 = .ok (.iload_n 3, 1) := by decide +kernel
theorem d_X_common_53 : decode b_X_common 53 = .ok (.if_icmp .ge 6, 3) := by decide +kernel
theorem d_X_common_56 : decode b_X_common 56 = .ok (.iinc 4 1, 3) := by decide +kernel
theorem d_X_common_59 : decode b_X_common 59 = .ok (.iinc 6 1, 3) := by decide +kernel
theorem d_X_common_62 : decode b_X_common 62 = .ok (.goto (-39), 3) := by decide +kernel
theorem d_X_common_65 : decode b_X_common 65 = .ok (.iconst 0, 1) := by decide +kernel
theorem d_X_common_66 : decode b_X_common 66 = .ok (.istore 6, 2) := by decide +kernel
theorem d_X_common_68 : decode b_X_common 68 = .ok (.iload 6, 2) := by decide +kernel
theorem d_X_common_70 : decode b_X_common 70 = .ok (.aload_n 0, 1) := by decide +kernel
theorem d_X_common_71 : decode b_X_common 71 = .ok (.getfield 16, 3) := by decide +kernel
theorem d_X_common_74 : decode b_X_common 74 = .ok (.iload_n 1, 1) := by decide +kernel
theorem d_X_common_75 : decode b_X_common 75 = .ok (.iaload, 1) := by decide +kernel
theorem d_X_common_76 : decode b_X_common 76 = .ok (.if_icmp .ge 37, 3) := by decide +kernel
theorem d_X_common_79 : decode b_X_common 79 = .ok (.aload_n 0, 1) := by decide +kernel
theorem d_X_common_80 : decode b_X_common 80 = .ok (.getfield 22, 3) := by decide +kernel
theorem d_X_common_83 : decode b_X_common 83 = .ok (.iload_n 1, 1) := by decide +kernel
theorem d_X_common_84 : decode b_X_common 84 = .ok (.bipush 20, 2) := by decide +kernel
theorem d_X_common_86 : decode b_X_common 86 = .ok (.imul, 1) := by decide +kernel
theorem d_X_common_87 : decode b_X_common 87 = .ok (.iload 6, 2) := by decide +kernel
theorem d_X_common_89 : decode b_X_common 89 = .ok (.iadd, 1) := by decide +kernel
theorem d_X_common_90 : decode b_X_common 90 = .ok (.iaload, 1) := by decide +kernel
theorem d_X_common_91 : decode b_X_common 91 = .ok (.iload_n 2, 1) := by decide +kernel
theorem d_X_common_92 : decode b_X_common 92 = .ok (.if_icmp .lt 15, 3) := by decide +kernel
theorem d_X_common_95 : decode b_X_common 95 = .ok (.iload 5, 2) := by decide +kernel
theorem d_X_common_97 : decode b_X_common 97 = .ok (.iload 6, 2) := by decide +kernel
theorem d_X_common_99 : decode b_X_common 99 = .ok (.isub, 1) := by decide +kernel
theorem d_X_common_100 : decode b_X_common 100 = .ok (.iload_n 3, 1) := by decide +kernel
theorem d_X_common_101 : decode b_X_common 101 = .ok (.if_icmp .ge 6, 3) := by decide +kernel
theorem d_X_common_104 : decode b_X_common 104 = .ok (.iinc 4 1, 3) := by decide +kernel
theorem d_X_common_107 : decode b_X_common 107 = .ok (.iinc 6 1, 3) := by decide +kernel
theorem d_X_common_110 : decode b_X_common 110 = .ok (.goto (-42), 3) := by decide +kernel
theorem d_X_common_113 : decode b_X_common 113 = .ok (.iload_n 3, 1) := by decide +kernel
theorem d_X_common_114 : decode b_X_common 114 = .ok (.iload_n 2, 1) := by decide +kernel
theorem d_X_common_115 : decode b_X_common 115 = .ok (.isub, 1) := by decide +kernel
theorem d_X_common_116 : decode b_X_common 116 = .ok (.iload 4, 2) := by decide +kernel
theorem d_X_common_118 : decode b_X_common 118 = .ok (.isub, 1) := by decide +kernel
theorem d_X_common_119 : decode b_X_common 119 = .ok (.ireturn, 1) := by decide +kernel
theorem d_X_badLetter_0 : decode b_X_badLetter 0 = .ok (.iload_n 1, 1) := by decide +kernel
theorem d_X_badLetter_1 : decode b_X_badLetter 1 = .ok (.ifCond .lt 8, 3) := by decide +kernel
theorem d_X_badLetter_4 : decode b_X_badLetter 4 = .ok (.iload_n 1, 1) := by decide +kernel
theorem d_X_badLetter_5 : decode b_X_badLetter 5 = .ok (.iconst 3, 1) := by decide +kernel
theorem d_X_badLetter_6 : decode b_X_badLetter 6 = .ok (.if_icmp .le 7, 3) := by decide +kernel
theorem d_X_badLetter_9 : decode b_X_badLetter 9 = .ok (.iconst 1, 1) := by decide +kernel
theorem d_X_badLetter_10 : decode b_X_badLetter 10 = .ok (.goto 4, 3) := by decide +kernel
theorem d_X_badLetter_13 : decode b_X_badLetter 13 = .ok (.iconst 0, 1) := by decide +kernel
theorem d_X_badLetter_14 : decode b_X_badLetter 14 = .ok (.ireturn, 1) := by decide +kernel
theorem d_X_growA_0 : decode b_X_growA 0 = .ok (.aload_n 0, 1) := by decide +kernel
theorem d_X_growA_1 : decode b_X_growA 1 = .ok (.iload_n 1, 1) := by decide +kernel
theorem d_X_growA_2 : decode b_X_growA 2 = .ok (.invokevirtual 56, 3) := by decide +kernel
theorem d_X_growA_5 : decode b_X_growA 5 = .ok (.ifCond .eq 5, 3) := by decide +kernel
theorem d_X_growA_8 : decode b_X_growA 8 = .ok (.iconst (-1), 1) := by decide +kernel
theorem d_X_growA_9 : decode b_X_growA 9 = .ok (.ireturn, 1) := by decide +kernel
theorem d_X_growA_10 : decode b_X_growA 10 = .ok (.aload_n 0, 1) := by decide +kernel
theorem d_X_growA_11 : decode b_X_growA 11 = .ok (.getfield 50, 3) := by decide +kernel
theorem d_X_growA_14 : decode b_X_growA 14 = .ok (.bipush 10, 2) := by decide +kernel
theorem d_X_growA_16 : decode b_X_growA 16 = .ok (.if_icmp .ne 6, 3) := by decide +kernel
theorem d_X_growA_19 : decode b_X_growA 19 = .ok (.bipush (-2), 2) := by decide +kernel
theorem d_X_growA_21 : decode b_X_growA 21 = .ok (.ireturn, 1) := by decide +kernel
theorem d_X_growA_22 : decode b_X_growA 22 = .ok (.aload_n 0, 1) := by decide +kernel
theorem d_X_growA_23 : decode b_X_growA 23 = .ok (.getfield 7, 3) := by decide +kernel
theorem d_X_growA_26 : decode b_X_growA 26 = .ok (.aload_n 0, 1) := by decide +kernel
theorem d_X_growA_27 : decode b_X_growA 27 = .ok (.getfield 50, 3) := by decide +kernel
theorem d_X_growA_30 : decode b_X_growA 30 = .ok (.iload_n 1, 1) := by decide +kernel
theorem d_X_growA_31 : decode b_X_growA 31 = .ok (.iastore, 1) := by decide +kernel
theorem d_X_growA_32 : decode b_X_growA 32 = .ok (.aload_n 0, 1) := by decide +kernel
theorem d_X_growA_33 : decode b_X_growA 33 = .ok (.dup, 1) := by decide +kernel
theorem d_X_growA_34 : decode b_X_growA 34 = .ok (.getfield 50, 3) := by decide +kernel
theorem d_X_growA_37 : decode b_X_growA 37 = .ok (.iconst 1, 1) := by decide +kernel
theorem d_X_growA_38 : decode b_X_growA 38 = .ok (.iadd, 1) := by decide +kernel
theorem d_X_growA_39 : decode b_X_growA 39 = .ok (.putfield 50, 3) := by decide +kernel
theorem d_X_growA_42 : decode b_X_growA 42 = .ok (.aload_n 0, 1) := by decide +kernel
theorem d_X_growA_43 : decode b_X_growA 43 = .ok (.iconst 0, 1) := by decide +kernel
theorem d_X_growA_44 : decode b_X_growA 44 = .ok (.invokevirtual 43, 3) := by decide +kernel
theorem d_X_growA_47 : decode b_X_growA 47 = .ok (.aload_n 0, 1) := by decide +kernel
theorem d_X_growA_48 : decode b_X_growA 48 = .ok (.iconst 1, 1) := by decide +kernel
theorem d_X_growA_49 : decode b_X_growA 49 = .ok (.invokevirtual 43, 3) := by decide +kernel
theorem d_X_growA_52 : decode b_X_growA 52 = .ok (.aload_n 0, 1) := by decide +kernel
theorem d_X_growA_53 : decode b_X_growA 53 = .ok (.iconst 1, 1) := by decide +kernel
theorem d_X_growA_54 : decode b_X_growA 54 = .ok (.invokevirtual 43, 3) := by decide +kernel
theorem d_X_growA_57 : decode b_X_growA 57 = .ok (.aload_n 0, 1) := by decide +kernel
theorem d_X_growA_58 : decode b_X_growA 58 = .ok (.getfield 50, 3) := by decide +kernel
theorem d_X_growA_61 : decode b_X_growA 61 = .ok (.ireturn, 1) := by decide +kernel
theorem d_X_growB_0 : decode b_X_growB 0 = .ok (.aload_n 0, 1) := by decide +kernel
theorem d_X_growB_1 : decode b_X_growB 1 = .ok (.iload_n 1, 1) := by decide +kernel
theorem d_X_growB_2 : decode b_X_growB 2 = .ok (.invokevirtual 56, 3) := by decide +kernel
theorem d_X_growB_5 : decode b_X_growB 5 = .ok (.ifCond .eq 5, 3) := by decide +kernel
theorem d_X_growB_8 : decode b_X_growB 8 = .ok (.iconst (-1), 1) := by decide +kernel
theorem d_X_growB_9 : decode b_X_growB 9 = .ok (.ireturn, 1) := by decide +kernel
theorem d_X_growB_10 : decode b_X_growB 10 = .ok (.aload_n 0, 1) := by decide +kernel
theorem d_X_growB_11 : decode b_X_growB 11 = .ok (.getfield 28, 3) := by decide +kernel
theorem d_X_growB_14 : decode b_X_growB 14 = .ok (.bipush 14, 2) := by decide +kernel
theorem d_X_growB_16 : decode b_X_growB 16 = .ok (.if_icmp .ne 6, 3) := by decide +kernel
theorem d_X_growB_19 : decode b_X_growB 19 = .ok (.bipush (-2), 2) := by decide +kernel
theorem d_X_growB_21 : decode b_X_growB 21 = .ok (.ireturn, 1) := by decide +kernel
theorem d_X_growB_22 : decode b_X_growB 22 = .ok (.aload_n 0, 1) := by decide +kernel
theorem d_X_growB_23 : decode b_X_growB 23 = .ok (.getfield 13, 3) := by decide +kernel
theorem d_X_growB_26 : decode b_X_growB 26 = .ok (.aload_n 0, 1) := by decide +kernel
theorem d_X_growB_27 : decode b_X_growB 27 = .ok (.getfield 28, 3) := by decide +kernel
theorem d_X_growB_30 : decode b_X_growB 30 = .ok (.iload_n 1, 1) := by decide +kernel
theorem d_X_growB_31 : decode b_X_growB 31 = .ok (.iastore, 1) := by decide +kernel
theorem d_X_growB_32 : decode b_X_growB 32 = .ok (.aload_n 0, 1) := by decide +kernel
theorem d_X_growB_33 : decode b_X_growB 33 = .ok (.dup, 1) := by decide +kernel
theorem d_X_growB_34 : decode b_X_growB 34 = .ok (.getfield 28, 3) := by decide +kernel
theorem d_X_growB_37 : decode b_X_growB 37 = .ok (.iconst 1, 1) := by decide +kernel
theorem d_X_growB_38 : decode b_X_growB 38 = .ok (.iadd, 1) := by decide +kernel
theorem d_X_growB_39 : decode b_X_growB 39 = .ok (.putfield 28, 3) := by decide +kernel
theorem d_X_growB_42 : decode b_X_growB 42 = .ok (.aload_n 0, 1) := by decide +kernel
theorem d_X_growB_43 : decode b_X_growB 43 = .ok (.iconst 0, 1) := by decide +kernel
theorem d_X_growB_44 : decode b_X_growB 44 = .ok (.invokevirtual 47, 3) := by decide +kernel
theorem d_X_growB_47 : decode b_X_growB 47 = .ok (.aload_n 0, 1) := by decide +kernel
theorem d_X_growB_48 : decode b_X_growB 48 = .ok (.iconst 1, 1) := by decide +kernel
theorem d_X_growB_49 : decode b_X_growB 49 = .ok (.invokevirtual 47, 3) := by decide +kernel
theorem d_X_growB_52 : decode b_X_growB 52 = .ok (.aload_n 0, 1) := by decide +kernel
theorem d_X_growB_53 : decode b_X_growB 53 = .ok (.iconst 1, 1) := by decide +kernel
theorem d_X_growB_54 : decode b_X_growB 54 = .ok (.invokevirtual 47, 3) := by decide +kernel
theorem d_X_growB_57 : decode b_X_growB 57 = .ok (.aload_n 0, 1) := by decide +kernel
theorem d_X_growB_58 : decode b_X_growB 58 = .ok (.getfield 28, 3) := by decide +kernel
theorem d_X_growB_61 : decode b_X_growB 61 = .ok (.ireturn, 1) := by decide +kernel
theorem d_X_putA_0 : decode b_X_putA 0 = .ok (.iload_n 1, 1) := by decide +kernel
theorem d_X_putA_1 : decode b_X_putA 1 = .ok (.ifCond .lt 19, 3) := by decide +kernel
theorem d_X_putA_4 : decode b_X_putA 4 = .ok (.iload_n 1, 1) := by decide +kernel
theorem d_X_putA_5 : decode b_X_putA 5 = .ok (.aload_n 0, 1) := by decide +kernel
theorem d_X_putA_6 : decode b_X_putA 6 = .ok (.getfield 50, 3) := by decide +kernel
theorem d_X_putA_9 : decode b_X_putA 9 = .ok (.if_icmp .ge 11, 3) := by decide +kernel
theorem d_X_putA_12 : decode b_X_putA 12 = .ok (.aload_n 0, 1) := by decide +kernel
theorem d_X_putA_13 : decode b_X_putA 13 = .ok (.iload_n 2, 1) := by decide +kernel
theorem d_X_putA_14 : decode b_X_putA 14 = .ok (.invokevirtual 56, 3) := by decide +kernel
theorem d_X_putA_17 : decode b_X_putA 17 = .ok (.ifCond .eq 5, 3) := by decide +kernel
theorem d_X_putA_20 : decode b_X_putA 20 = .ok (.iconst (-1), 1) := by decide +kernel
theorem d_X_putA_21 : decode b_X_putA 21 = .ok (.ireturn, 1) := by decide +kernel
theorem d_X_putA_22 : decode b_X_putA 22 = .ok (.aload_n 0, 1) := by decide +kernel
theorem d_X_putA_23 : decode b_X_putA 23 = .ok (.getfield 7, 3) := by decide +kernel
theorem d_X_putA_26 : decode b_X_putA 26 = .ok (.iload_n 1, 1) := by decide +kernel
theorem d_X_putA_27 : decode b_X_putA 27 = .ok (.iaload, 1) := by decide +kernel
theorem d_X_putA_28 : decode b_X_putA 28 = .ok (.istore_n 3, 1) := by decide +kernel
theorem d_X_putA_29 : decode b_X_putA 29 = .ok (.aload_n 0, 1) := by decide +kernel
theorem d_X_putA_30 : decode b_X_putA 30 = .ok (.getfield 7, 3) := by decide +kernel
theorem d_X_putA_33 : decode b_X_putA 33 = .ok (.iload_n 1, 1) := by decide +kernel
theorem d_X_putA_34 : decode b_X_putA 34 = .ok (.iload_n 2, 1) := by decide +kernel
theorem d_X_putA_35 : decode b_X_putA 35 = .ok (.iastore, 1) := by decide +kernel
theorem d_X_putA_36 : decode b_X_putA 36 = .ok (.iload_n 3, 1) := by decide +kernel
theorem d_X_putA_37 : decode b_X_putA 37 = .ok (.iload_n 2, 1) := by decide +kernel
theorem d_X_putA_38 : decode b_X_putA 38 = .ok (.if_icmp .eq 7, 3) := by decide +kernel
theorem d_X_putA_41 : decode b_X_putA 41 = .ok (.aload_n 0, 1) := by decide +kernel
theorem d_X_putA_42 : decode b_X_putA 42 = .ok (.invokevirtual 60, 3) := by decide +kernel
theorem d_X_putA_45 : decode b_X_putA 45 = .ok (.iload_n 3, 1) := by decide +kernel
theorem d_X_putA_46 : decode b_X_putA 46 = .ok (.ireturn, 1) := by decide +kernel
theorem d_X_shiftB_0 : decode b_X_shiftB 0 = .ok (.aload_n 0, 1) := by decide +kernel
theorem d_X_shiftB_1 : decode b_X_shiftB 1 = .ok (.getfield 28, 3) := by decide +kernel
theorem d_X_shiftB_4 : decode b_X_shiftB 4 = .ok (.ifCond .ne 6, 3) := by decide +kernel
theorem d_X_shiftB_7 : decode b_X_shiftB 7 = .ok (.bipush (-4), 2) := by decide +kernel
theorem d_X_shiftB_9 : decode b_X_shiftB 9 = .ok (.ireturn, 1) := by decide +kernel
theorem d_X_shiftB_10 : decode b_X_shiftB 10 = .ok (.aload_n 0, 1) := by decide +kernel
theorem d_X_shiftB_11 : decode b_X_shiftB 11 = .ok (.getfield 13, 3) := by decide +kernel
theorem d_X_shiftB_14 : decode b_X_shiftB 14 = .ok (.iconst 0, 1) := by decide +kernel
theorem d_X_shiftB_15 : decode b_X_shiftB 15 = .ok (.iaload, 1) := by decide +kernel
theorem d_X_shiftB_16 : decode b_X_shiftB 16 = .ok (.istore_n 1, 1) := by decide +kernel
theorem d_X_shiftB_17 : decode b_X_shiftB 17 = .ok (.aload_n 0, 1) := by decide +kernel
theorem d_X_shiftB_18 : decode b_X_shiftB 18 = .ok (.dup, 1) := by decide +kernel
theorem d_X_shiftB_19 : decode b_X_shiftB 19 = .ok (.getfield 28, 3) := by decide +kernel
theorem d_X_shiftB_22 : decode b_X_shiftB 22 = .ok (.iconst 1, 1) := by decide +kernel
theorem d_X_shiftB_23 : decode b_X_shiftB 23 = .ok (.isub, 1) := by decide +kernel
theorem d_X_shiftB_24 : decode b_X_shiftB 24 = .ok (.putfield 28, 3) := by decide +kernel
theorem d_X_shiftB_27 : decode b_X_shiftB 27 = .ok (.iconst 0, 1) := by decide +kernel
theorem d_X_shiftB_28 : decode b_X_shiftB 28 = .ok (.istore_n 2, 1) := by decide +kernel
theorem d_X_shiftB_29 : decode b_X_shiftB 29 = .ok (.iload_n 2, 1) := by decide +kernel
theorem d_X_shiftB_30 : decode b_X_shiftB 30 = .ok (.aload_n 0, 1) := by decide +kernel
theorem d_X_shiftB_31 : decode b_X_shiftB 31 = .ok (.getfield 28, 3) := by decide +kernel
theorem d_X_shiftB_34 : decode b_X_shiftB 34 = .ok (.if_icmp .ge 23, 3) := by decide +kernel
theorem d_X_shiftB_37 : decode b_X_shiftB 37 = .ok (.aload_n 0, 1) := by decide +kernel
theorem d_X_shiftB_38 : decode b_X_shiftB 38 = .ok (.getfield 13, 3) := by decide +kernel
theorem d_X_shiftB_41 : decode b_X_shiftB 41 = .ok (.iload_n 2, 1) := by decide +kernel
theorem d_X_shiftB_42 : decode b_X_shiftB 42 = .ok (.aload_n 0, 1) := by decide +kernel
theorem d_X_shiftB_43 : decode b_X_shiftB 43 = .ok (.getfield 13, 3) := by decide +kernel
theorem d_X_shiftB_46 : decode b_X_shiftB 46 = .ok (.iload_n 2, 1) := by decide +kernel
theorem d_X_shiftB_47 : decode b_X_shiftB 47 = .ok (.iconst 1, 1) := by decide +kernel
theorem d_X_shiftB_48 : decode b_X_shiftB 48 = .ok (.iadd, 1) := by decide +kernel
theorem d_X_shiftB_49 : decode b_X_shiftB 49 = .ok (.iaload, 1) := by decide +kernel
theorem d_X_shiftB_50 : decode b_X_shiftB 50 = .ok (.iastore, 1) := by decide +kernel
theorem d_X_shiftB_51 : decode b_X_shiftB 51 = .ok (.iinc 2 1, 3) := by decide +kernel
theorem d_X_shiftB_54 : decode b_X_shiftB 54 = .ok (.goto (-25), 3) := by decide +kernel
theorem d_X_shiftB_57 : decode b_X_shiftB 57 = .ok (.aload_n 0, 1) := by decide +kernel
theorem d_X_shiftB_58 : decode b_X_shiftB 58 = .ok (.invokevirtual 60, 3) := by decide +kernel
theorem d_X_shiftB_61 : decode b_X_shiftB 61 = .ok (.iload_n 1, 1) := by decide +kernel
theorem d_X_shiftB_62 : decode b_X_shiftB 62 = .ok (.ireturn, 1) := by decide +kernel
theorem d_X_clear_0 : decode b_X_clear 0 = .ok (.aload_n 0, 1) := by decide +kernel
theorem d_X_clear_1 : decode b_X_clear 1 = .ok (.iconst 0, 1) := by decide +kernel
theorem d_X_clear_2 : decode b_X_clear 2 = .ok (.putfield 50, 3) := by decide +kernel
theorem d_X_clear_5 : decode b_X_clear 5 = .ok (.aload_n 0, 1) := by decide +kernel
theorem d_X_clear_6 : decode b_X_clear 6 = .ok (.iconst 0, 1) := by decide +kernel
theorem d_X_clear_7 : decode b_X_clear 7 = .ok (.putfield 28, 3) := by decide +kernel
theorem d_X_clear_10 : decode b_X_clear 10 = .ok (.aload_n 0, 1) := by decide +kernel
theorem d_X_clear_11 : decode b_X_clear 11 = .ok (.invokevirtual 60, 3) := by decide +kernel
theorem d_X_clear_14 : decode b_X_clear 14 = .ok (.return_, 1) := by decide +kernel
theorem d_X_lengths_0 : decode b_X_lengths 0 = .ok (.aload_n 0, 1) := by decide +kernel
theorem d_X_lengths_1 : decode b_X_lengths 1 = .ok (.getfield 50, 3) := by decide +kernel
theorem d_X_lengths_4 : decode b_X_lengths 4 = .ok (.bipush 16, 2) := by decide +kernel
theorem d_X_lengths_6 : decode b_X_lengths 6 = .ok (.aload_n 0, 1) := by decide +kernel
theorem d_X_lengths_7 : decode b_X_lengths 7 = .ok (.getfield 28, 3) := by decide +kernel
theorem d_X_lengths_10 : decode b_X_lengths 10 = .ok (.imul, 1) := by decide +kernel
theorem d_X_lengths_11 : decode b_X_lengths 11 = .ok (.iadd, 1) := by decide +kernel
theorem d_X_lengths_12 : decode b_X_lengths 12 = .ok (.ireturn, 1) := by decide +kernel
theorem d_X_badStretch_0 : decode b_X_badStretch 0 = .ok (.iload_n 1, 1) := by decide +kernel
theorem d_X_badStretch_1 : decode b_X_badStretch 1 = .ok (.ifCond .lt 13, 3) := by decide +kernel
theorem d_X_badStretch_4 : decode b_X_badStretch 4 = .ok (.iload_n 1, 1) := by decide +kernel
theorem d_X_badStretch_5 : decode b_X_badStretch 5 = .ok (.iload_n 2, 1) := by decide +kernel
theorem d_X_badStretch_6 : decode b_X_badStretch 6 = .ok (.if_icmp .gt 8, 3) := by decide +kernel
theorem d_X_badStretch_9 : decode b_X_badStretch 9 = .ok (.iload_n 2, 1) := by decide +kernel
theorem d_X_badStretch_10 : decode b_X_badStretch 10 = .ok (.iload_n 3, 1) := by decide +kernel
theorem d_X_badStretch_11 : decode b_X_badStretch 11 = .ok (.if_icmp .le 7, 3) := by decide +kernel
theorem d_X_badStretch_14 : decode b_X_badStretch 14 = .ok (.iconst 1, 1) := by decide +kernel
theorem d_X_badStretch_15 : decode b_X_badStretch 15 = .ok (.goto 4, 3) := by decide +kernel
theorem d_X_badStretch_18 : decode b_X_badStretch 18 = .ok (.iconst 0, 1) := by decide +kernel
theorem d_X_badStretch_19 : decode b_X_badStretch 19 = .ok (.ireturn, 1) := by decide +kernel
theorem d_X_commonB_0 : decode b_X_commonB 0 = .ok (.aload_n 0, 1) := by decide +kernel
theorem d_X_commonB_1 : decode b_X_commonB 1 = .ok (.iload_n 1, 1) := by decide +kernel
theorem d_X_commonB_2 : decode b_X_commonB 2 = .ok (.iload_n 2, 1) := by decide +kernel
theorem d_X_commonB_3 : decode b_X_commonB 3 = .ok (.aload_n 0, 1) := by decide +kernel
theorem d_X_commonB_4 : decode b_X_commonB 4 = .ok (.getfield 28, 3) := by decide +kernel
theorem d_X_commonB_7 : decode b_X_commonB 7 = .ok (.invokevirtual 63, 3) := by decide +kernel
theorem d_X_commonB_10 : decode b_X_commonB 10 = .ok (.ifCond .eq 5, 3) := by decide +kernel
theorem d_X_commonB_13 : decode b_X_commonB 13 = .ok (.iconst (-1), 1) := by decide +kernel
theorem d_X_commonB_14 : decode b_X_commonB 14 = .ok (.ireturn, 1) := by decide +kernel
theorem d_X_commonB_15 : decode b_X_commonB 15 = .ok (.aload_n 0, 1) := by decide +kernel
theorem d_X_commonB_16 : decode b_X_commonB 16 = .ok (.iconst 0, 1) := by decide +kernel
theorem d_X_commonB_17 : decode b_X_commonB 17 = .ok (.iload_n 1, 1) := by decide +kernel
theorem d_X_commonB_18 : decode b_X_commonB 18 = .ok (.iload_n 2, 1) := by decide +kernel
theorem d_X_commonB_19 : decode b_X_commonB 19 = .ok (.invokevirtual 67, 3) := by decide +kernel
theorem d_X_commonB_22 : decode b_X_commonB 22 = .ok (.ireturn, 1) := by decide +kernel
theorem d_X_commonRows_0 : decode b_X_commonRows 0 = .ok (.aload_n 0, 1) := by decide +kernel
theorem d_X_commonRows_1 : decode b_X_commonRows 1 = .ok (.getfield 16, 3) := by decide +kernel
theorem d_X_commonRows_4 : decode b_X_commonRows 4 = .ok (.iload_n 1, 1) := by decide +kernel
theorem d_X_commonRows_5 : decode b_X_commonRows 5 = .ok (.iaload, 1) := by decide +kernel
theorem d_X_commonRows_6 : decode b_X_commonRows 6 = .ok (.iload_n 3, 1) := by decide +kernel
theorem d_X_commonRows_7 : decode b_X_commonRows 7 = .ok (.isub, 1) := by decide +kernel
theorem d_X_commonRows_8 : decode b_X_commonRows 8 = .ok (.istore 4, 2) := by decide +kernel
theorem d_X_commonRows_10 : decode b_X_commonRows 10 = .ok (.aload_n 0, 1) := by decide +kernel
theorem d_X_commonRows_11 : decode b_X_commonRows 11 = .ok (.iload_n 1, 1) := by decide +kernel
theorem d_X_commonRows_12 : decode b_X_commonRows 12 = .ok (.iload_n 2, 1) := by decide +kernel
theorem d_X_commonRows_13 : decode b_X_commonRows 13 = .ok (.ineg, 1) := by decide +kernel
theorem d_X_commonRows_14 : decode b_X_commonRows 14 = .ok (.aload_n 0, 1) := by decide +kernel
theorem d_X_commonRows_15 : decode b_X_commonRows 15 = .ok (.getfield 19, 3) := by decide +kernel
theorem d_X_commonRows_18 : decode b_X_commonRows 18 = .ok (.iload_n 1, 1) := by decide +kernel
theorem d_X_commonRows_19 : decode b_X_commonRows 19 = .ok (.iaload, 1) := by decide +kernel
theorem d_X_commonRows_20 : decode b_X_commonRows 20 = .ok (.iload 4, 2) := by decide +kernel
theorem d_X_commonRows_22 : decode b_X_commonRows 22 = .ok (.iadd, 1) := by decide +kernel
theorem d_X_commonRows_23 : decode b_X_commonRows 23 = .ok (.invokevirtual 67, 3) := by decide +kernel
theorem d_X_commonRows_26 : decode b_X_commonRows 26 = .ok (.istore 5, 2) := by decide +kernel
theorem d_X_commonRows_28 : decode b_X_commonRows 28 = .ok (.iload 5, 2) := by decide +kernel
theorem d_X_commonRows_30 : decode b_X_commonRows 30 = .ok (.iload_n 2, 1) := by decide +kernel
theorem d_X_commonRows_31 : decode b_X_commonRows 31 = .ok (.isub, 1) := by decide +kernel
theorem d_X_commonRows_32 : decode b_X_commonRows 32 = .ok (.iload 4, 2) := by decide +kernel
theorem d_X_commonRows_34 : decode b_X_commonRows 34 = .ok (.isub, 1) := by decide +kernel
theorem d_X_commonRows_35 : decode b_X_commonRows 35 = .ok (.ireturn, 1) := by decide +kernel
theorem d_X_commonA_0 : decode b_X_commonA 0 = .ok (.aload_n 0, 1) := by decide +kernel
theorem d_X_commonA_1 : decode b_X_commonA 1 = .ok (.iload_n 1, 1) := by decide +kernel
theorem d_X_commonA_2 : decode b_X_commonA 2 = .ok (.iload_n 2, 1) := by decide +kernel
theorem d_X_commonA_3 : decode b_X_commonA 3 = .ok (.aload_n 0, 1) := by decide +kernel
theorem d_X_commonA_4 : decode b_X_commonA 4 = .ok (.getfield 50, 3) := by decide +kernel
theorem d_X_commonA_7 : decode b_X_commonA 7 = .ok (.invokevirtual 63, 3) := by decide +kernel
theorem d_X_commonA_10 : decode b_X_commonA 10 = .ok (.ifCond .eq 5, 3) := by decide +kernel
theorem d_X_commonA_13 : decode b_X_commonA 13 = .ok (.iconst (-1), 1) := by decide +kernel
theorem d_X_commonA_14 : decode b_X_commonA 14 = .ok (.ireturn, 1) := by decide +kernel
theorem d_X_commonA_15 : decode b_X_commonA 15 = .ok (.aload_n 0, 1) := by decide +kernel
theorem d_X_commonA_16 : decode b_X_commonA 16 = .ok (.iconst 0, 1) := by decide +kernel
theorem d_X_commonA_17 : decode b_X_commonA 17 = .ok (.iload_n 1, 1) := by decide +kernel
theorem d_X_commonA_18 : decode b_X_commonA 18 = .ok (.iload_n 2, 1) := by decide +kernel
theorem d_X_commonA_19 : decode b_X_commonA 19 = .ok (.invokevirtual 71, 3) := by decide +kernel
theorem d_X_commonA_22 : decode b_X_commonA 22 = .ok (.ireturn, 1) := by decide +kernel
theorem d_X_badCounts_0 : decode b_X_badCounts 0 = .ok (.iload_n 1, 1) := by decide +kernel
theorem d_X_badCounts_1 : decode b_X_badCounts 1 = .ok (.ifCond .lt 23, 3) := by decide +kernel
theorem d_X_badCounts_4 : decode b_X_badCounts 4 = .ok (.iload_n 1, 1) := by decide +kernel
theorem d_X_badCounts_5 : decode b_X_badCounts 5 = .ok (.aload_n 0, 1) := by decide +kernel
theorem d_X_badCounts_6 : decode b_X_badCounts 6 = .ok (.getfield 50, 3) := by decide +kernel
theorem d_X_badCounts_9 : decode b_X_badCounts 9 = .ok (.if_icmp .gt 15, 3) := by decide +kernel
theorem d_X_badCounts_12 : decode b_X_badCounts 12 = .ok (.iload_n 2, 1) := by decide +kernel
theorem d_X_badCounts_13 : decode b_X_badCounts 13 = .ok (.ifCond .lt 11, 3) := by decide +kernel
theorem d_X_badCounts_16 : decode b_X_badCounts 16 = .ok (.iload_n 2, 1) := by decide +kernel
theorem d_X_badCounts_17 : decode b_X_badCounts 17 = .ok (.aload_n 0, 1) := by decide +kernel
theorem d_X_badCounts_18 : decode b_X_badCounts 18 = .ok (.getfield 28, 3) := by decide +kernel
theorem d_X_badCounts_21 : decode b_X_badCounts 21 = .ok (.if_icmp .le 7, 3) := by decide +kernel
theorem d_X_badCounts_24 : decode b_X_badCounts 24 = .ok (.iconst 1, 1) := by decide +kernel
theorem d_X_badCounts_25 : decode b_X_badCounts 25 = .ok (.goto 4, 3) := by decide +kernel
theorem d_X_badCounts_28 : decode b_X_badCounts 28 = .ok (.iconst 0, 1) := by decide +kernel
theorem d_X_badCounts_29 : decode b_X_badCounts 29 = .ok (.ireturn, 1) := by decide +kernel
theorem d_X_commonEnd_0 : decode b_X_commonEnd 0 = .ok (.aload_n 0, 1) := by decide +kernel
theorem d_X_commonEnd_1 : decode b_X_commonEnd 1 = .ok (.iload_n 1, 1) := by decide +kernel
theorem d_X_commonEnd_2 : decode b_X_commonEnd 2 = .ok (.iload_n 2, 1) := by decide +kernel
theorem d_X_commonEnd_3 : decode b_X_commonEnd 3 = .ok (.invokevirtual 74, 3) := by decide +kernel
theorem d_X_commonEnd_6 : decode b_X_commonEnd 6 = .ok (.ifCond .eq 5, 3) := by decide +kernel
theorem d_X_commonEnd_9 : decode b_X_commonEnd 9 = .ok (.iconst (-1), 1) := by decide +kernel
theorem d_X_commonEnd_10 : decode b_X_commonEnd 10 = .ok (.ireturn, 1) := by decide +kernel
theorem d_X_commonEnd_11 : decode b_X_commonEnd 11 = .ok (.aload_n 0, 1) := by decide +kernel
theorem d_X_commonEnd_12 : decode b_X_commonEnd 12 = .ok (.getfield 50, 3) := by decide +kernel
theorem d_X_commonEnd_15 : decode b_X_commonEnd 15 = .ok (.iload_n 1, 1) := by decide +kernel
theorem d_X_commonEnd_16 : decode b_X_commonEnd 16 = .ok (.isub, 1) := by decide +kernel
theorem d_X_commonEnd_17 : decode b_X_commonEnd 17 = .ok (.istore_n 3, 1) := by decide +kernel
theorem d_X_commonEnd_18 : decode b_X_commonEnd 18 = .ok (.aload_n 0, 1) := by decide +kernel
theorem d_X_commonEnd_19 : decode b_X_commonEnd 19 = .ok (.iconst 0, 1) := by decide +kernel
theorem d_X_commonEnd_20 : decode b_X_commonEnd 20 = .ok (.iload_n 3, 1) := by decide +kernel
theorem d_X_commonEnd_21 : decode b_X_commonEnd 21 = .ok (.ineg, 1) := by decide +kernel
theorem d_X_commonEnd_22 : decode b_X_commonEnd 22 = .ok (.iload_n 2, 1) := by decide +kernel
theorem d_X_commonEnd_23 : decode b_X_commonEnd 23 = .ok (.invokevirtual 67, 3) := by decide +kernel
theorem d_X_commonEnd_26 : decode b_X_commonEnd 26 = .ok (.istore 4, 2) := by decide +kernel
theorem d_X_commonEnd_28 : decode b_X_commonEnd 28 = .ok (.iload 4, 2) := by decide +kernel
theorem d_X_commonEnd_30 : decode b_X_commonEnd 30 = .ok (.iload_n 3, 1) := by decide +kernel
theorem d_X_commonEnd_31 : decode b_X_commonEnd 31 = .ok (.isub, 1) := by decide +kernel
theorem d_X_commonEnd_32 : decode b_X_commonEnd 32 = .ok (.ireturn, 1) := by decide +kernel
theorem d_X_commonBegin_0 : decode b_X_commonBegin 0 = .ok (.aload_n 0, 1) := by decide +kernel
theorem d_X_commonBegin_1 : decode b_X_commonBegin 1 = .ok (.iload_n 1, 1) := by decide +kernel
theorem d_X_commonBegin_2 : decode b_X_commonBegin 2 = .ok (.iload_n 2, 1) := by decide +kernel
theorem d_X_commonBegin_3 : decode b_X_commonBegin 3 = .ok (.invokevirtual 74, 3) := by decide +kernel
theorem d_X_commonBegin_6 : decode b_X_commonBegin 6 = .ok (.ifCond .eq 5, 3) := by decide +kernel
theorem d_X_commonBegin_9 : decode b_X_commonBegin 9 = .ok (.iconst (-1), 1) := by decide +kernel
theorem d_X_commonBegin_10 : decode b_X_commonBegin 10 = .ok (.ireturn, 1) := by decide +kernel
theorem d_X_commonBegin_11 : decode b_X_commonBegin 11 = .ok (.aload_n 0, 1) := by decide +kernel
theorem d_X_commonBegin_12 : decode b_X_commonBegin 12 = .ok (.getfield 50, 3) := by decide +kernel
theorem d_X_commonBegin_15 : decode b_X_commonBegin 15 = .ok (.iload_n 1, 1) := by decide +kernel
theorem d_X_commonBegin_16 : decode b_X_commonBegin 16 = .ok (.isub, 1) := by decide +kernel
theorem d_X_commonBegin_17 : decode b_X_commonBegin 17 = .ok (.istore_n 3, 1) := by decide +kernel
theorem d_X_commonBegin_18 : decode b_X_commonBegin 18 = .ok (.aload_n 0, 1) := by decide +kernel
theorem d_X_commonBegin_19 : decode b_X_commonBegin 19 = .ok (.iconst 0, 1) := by decide +kernel
theorem d_X_commonBegin_20 : decode b_X_commonBegin 20 = .ok (.aload_n 0, 1) := by decide +kernel
theorem d_X_commonBegin_21 : decode b_X_commonBegin 21 = .ok (.getfield 28, 3) := by decide +kernel
theorem d_X_commonBegin_24 : decode b_X_commonBegin 24 = .ok (.iload_n 2, 1) := by decide +kernel
theorem d_X_commonBegin_25 : decode b_X_commonBegin 25 = .ok (.isub, 1) := by decide +kernel
theorem d_X_commonBegin_26 : decode b_X_commonBegin 26 = .ok (.aload_n 0, 1) := by decide +kernel
theorem d_X_commonBegin_27 : decode b_X_commonBegin 27 = .ok (.getfield 28, 3) := by decide +kernel
theorem d_X_commonBegin_30 : decode b_X_commonBegin 30 = .ok (.iload_n 3, 1) := by decide +kernel
theorem d_X_commonBegin_31 : decode b_X_commonBegin 31 = .ok (.iadd, 1) := by decide +kernel
theorem d_X_commonBegin_32 : decode b_X_commonBegin 32 = .ok (.invokevirtual 67, 3) := by decide +kernel
theorem d_X_commonBegin_35 : decode b_X_commonBegin 35 = .ok (.istore 4, 2) := by decide +kernel
theorem d_X_commonBegin_37 : decode b_X_commonBegin 37 = .ok (.iload 4, 2) := by decide +kernel
theorem d_X_commonBegin_39 : decode b_X_commonBegin 39 = .ok (.iload_n 3, 1) := by decide +kernel
theorem d_X_commonBegin_40 : decode b_X_commonBegin 40 = .ok (.isub, 1) := by decide +kernel
theorem d_X_commonBegin_41 : decode b_X_commonBegin 41 = .ok (.ireturn, 1) := by decide +kernel
theorem d_X_changes_0 : decode b_X_changes 0 = .ok (.aload_n 0, 1) := by decide +kernel
theorem d_X_changes_1 : decode b_X_changes 1 = .ok (.iconst 1, 1) := by decide +kernel
theorem d_X_changes_2 : decode b_X_changes 2 = .ok (.iconst 2, 1) := by decide +kernel
theorem d_X_changes_3 : decode b_X_changes 3 = .ok (.iload_n 1, 1) := by decide +kernel
theorem d_X_changes_4 : decode b_X_changes 4 = .ok (.imul, 1) := by decide +kernel
theorem d_X_changes_5 : decode b_X_changes 5 = .ok (.iconst 2, 1) := by decide +kernel
theorem d_X_changes_6 : decode b_X_changes 6 = .ok (.iload_n 2, 1) := by decide +kernel
theorem d_X_changes_7 : decode b_X_changes 7 = .ok (.imul, 1) := by decide +kernel
theorem d_X_changes_8 : decode b_X_changes 8 = .ok (.invokevirtual 67, 3) := by decide +kernel
theorem d_X_changes_11 : decode b_X_changes 11 = .ok (.istore_n 3, 1) := by decide +kernel
theorem d_X_changes_12 : decode b_X_changes 12 = .ok (.aload_n 0, 1) := by decide +kernel
theorem d_X_changes_13 : decode b_X_changes 13 = .ok (.getfield 50, 3) := by decide +kernel
theorem d_X_changes_16 : decode b_X_changes 16 = .ok (.iload_n 2, 1) := by decide +kernel
theorem d_X_changes_17 : decode b_X_changes 17 = .ok (.iadd, 1) := by decide +kernel
theorem d_X_changes_18 : decode b_X_changes 18 = .ok (.iload_n 1, 1) := by decide +kernel
theorem d_X_changes_19 : decode b_X_changes 19 = .ok (.isub, 1) := by decide +kernel
theorem d_X_changes_20 : decode b_X_changes 20 = .ok (.iload_n 3, 1) := by decide +kernel
theorem d_X_changes_21 : decode b_X_changes 21 = .ok (.isub, 1) := by decide +kernel
theorem d_X_changes_22 : decode b_X_changes 22 = .ok (.ireturn, 1) := by decide +kernel
theorem d_X_changesB_0 : decode b_X_changesB 0 = .ok (.aload_n 0, 1) := by decide +kernel
theorem d_X_changesB_1 : decode b_X_changesB 1 = .ok (.iload_n 1, 1) := by decide +kernel
theorem d_X_changesB_2 : decode b_X_changesB 2 = .ok (.iload_n 2, 1) := by decide +kernel
theorem d_X_changesB_3 : decode b_X_changesB 3 = .ok (.aload_n 0, 1) := by decide +kernel
theorem d_X_changesB_4 : decode b_X_changesB 4 = .ok (.getfield 28, 3) := by decide +kernel
theorem d_X_changesB_7 : decode b_X_changesB 7 = .ok (.invokevirtual 63, 3) := by decide +kernel
theorem d_X_changesB_10 : decode b_X_changesB 10 = .ok (.ifCond .eq 5, 3) := by decide +kernel
theorem d_X_changesB_13 : decode b_X_changesB 13 = .ok (.iconst (-1), 1) := by decide +kernel
theorem d_X_changesB_14 : decode b_X_changesB 14 = .ok (.ireturn, 1) := by decide +kernel
theorem d_X_changesB_15 : decode b_X_changesB 15 = .ok (.aload_n 0, 1) := by decide +kernel
theorem d_X_changesB_16 : decode b_X_changesB 16 = .ok (.iload_n 1, 1) := by decide +kernel
theorem d_X_changesB_17 : decode b_X_changesB 17 = .ok (.iload_n 2, 1) := by decide +kernel
theorem d_X_changesB_18 : decode b_X_changesB 18 = .ok (.invokevirtual 78, 3) := by decide +kernel
theorem d_X_changesB_21 : decode b_X_changesB 21 = .ok (.ireturn, 1) := by decide +kernel
theorem d_X_changesA_0 : decode b_X_changesA 0 = .ok (.aload_n 0, 1) := by decide +kernel
theorem d_X_changesA_1 : decode b_X_changesA 1 = .ok (.iload_n 1, 1) := by decide +kernel
theorem d_X_changesA_2 : decode b_X_changesA 2 = .ok (.iload_n 2, 1) := by decide +kernel
theorem d_X_changesA_3 : decode b_X_changesA 3 = .ok (.aload_n 0, 1) := by decide +kernel
theorem d_X_changesA_4 : decode b_X_changesA 4 = .ok (.getfield 50, 3) := by decide +kernel
theorem d_X_changesA_7 : decode b_X_changesA 7 = .ok (.invokevirtual 63, 3) := by decide +kernel
theorem d_X_changesA_10 : decode b_X_changesA 10 = .ok (.ifCond .eq 5, 3) := by decide +kernel
theorem d_X_changesA_13 : decode b_X_changesA 13 = .ok (.iconst (-1), 1) := by decide +kernel
theorem d_X_changesA_14 : decode b_X_changesA 14 = .ok (.ireturn, 1) := by decide +kernel
theorem d_X_changesA_15 : decode b_X_changesA 15 = .ok (.aload_n 0, 1) := by decide +kernel
theorem d_X_changesA_16 : decode b_X_changesA 16 = .ok (.iconst 1, 1) := by decide +kernel
theorem d_X_changesA_17 : decode b_X_changesA 17 = .ok (.iconst 2, 1) := by decide +kernel
theorem d_X_changesA_18 : decode b_X_changesA 18 = .ok (.iload_n 1, 1) := by decide +kernel
theorem d_X_changesA_19 : decode b_X_changesA 19 = .ok (.imul, 1) := by decide +kernel
theorem d_X_changesA_20 : decode b_X_changesA 20 = .ok (.iconst 2, 1) := by decide +kernel
theorem d_X_changesA_21 : decode b_X_changesA 21 = .ok (.iload_n 2, 1) := by decide +kernel
theorem d_X_changesA_22 : decode b_X_changesA 22 = .ok (.imul, 1) := by decide +kernel
theorem d_X_changesA_23 : decode b_X_changesA 23 = .ok (.invokevirtual 71, 3) := by decide +kernel
theorem d_X_changesA_26 : decode b_X_changesA 26 = .ok (.istore_n 3, 1) := by decide +kernel
theorem d_X_changesA_27 : decode b_X_changesA 27 = .ok (.aload_n 0, 1) := by decide +kernel
theorem d_X_changesA_28 : decode b_X_changesA 28 = .ok (.getfield 28, 3) := by decide +kernel
theorem d_X_changesA_31 : decode b_X_changesA 31 = .ok (.iload_n 2, 1) := by decide +kernel
theorem d_X_changesA_32 : decode b_X_changesA 32 = .ok (.iadd, 1) := by decide +kernel
theorem d_X_changesA_33 : decode b_X_changesA 33 = .ok (.iload_n 1, 1) := by decide +kernel
theorem d_X_changesA_34 : decode b_X_changesA 34 = .ok (.isub, 1) := by decide +kernel
theorem d_X_changesA_35 : decode b_X_changesA 35 = .ok (.iload_n 3, 1) := by decide +kernel
theorem d_X_changesA_36 : decode b_X_changesA 36 = .ok (.isub, 1) := by decide +kernel
theorem d_X_changesA_37 : decode b_X_changesA 37 = .ok (.ireturn, 1) := by decide +kernel
theorem d_X_nearest_0 : decode b_X_nearest 0 = .ok (.aload_n 0, 1) := by decide +kernel
theorem d_X_nearest_1 : decode b_X_nearest 1 = .ok (.invokevirtual 81, 3) := by decide +kernel
theorem d_X_nearest_4 : decode b_X_nearest 4 = .ok (.istore_n 1, 1) := by decide +kernel
theorem d_X_nearest_5 : decode b_X_nearest 5 = .ok (.aload_n 0, 1) := by decide +kernel
theorem d_X_nearest_6 : decode b_X_nearest 6 = .ok (.iload_n 1, 1) := by decide +kernel
theorem d_X_nearest_7 : decode b_X_nearest 7 = .ok (.iconst 4, 1) := by decide +kernel
theorem d_X_nearest_8 : decode b_X_nearest 8 = .ok (.ishr, 1) := by decide +kernel
theorem d_X_nearest_9 : decode b_X_nearest 9 = .ok (.iload_n 1, 1) := by decide +kernel
theorem d_X_nearest_10 : decode b_X_nearest 10 = .ok (.bipush 15, 2) := by decide +kernel
theorem d_X_nearest_12 : decode b_X_nearest 12 = .ok (.iand, 1) := by decide +kernel
theorem d_X_nearest_13 : decode b_X_nearest 13 = .ok (.invokevirtual 78, 3) := by decide +kernel
theorem d_X_nearest_16 : decode b_X_nearest 16 = .ok (.ireturn, 1) := by decide +kernel
theorem d_X_nearestAt_0 : decode b_X_nearestAt 0 = .ok (.bipush 100, 2) := by decide +kernel
theorem d_X_nearestAt_2 : decode b_X_nearestAt 2 = .ok (.istore_n 1, 1) := by decide +kernel
theorem d_X_nearestAt_3 : decode b_X_nearestAt 3 = .ok (.iconst 0, 1) := by decide +kernel
theorem d_X_nearestAt_4 : decode b_X_nearestAt 4 = .ok (.istore_n 2, 1) := by decide +kernel
theorem d_X_nearestAt_5 : decode b_X_nearestAt 5 = .ok (.iconst 0, 1) := by decide +kernel
theorem d_X_nearestAt_6 : decode b_X_nearestAt 6 = .ok (.istore_n 3, 1) := by decide +kernel
theorem d_X_nearestAt_7 : decode b_X_nearestAt 7 = .ok (.iload_n 3, 1) := by decide +kernel
theorem d_X_nearestAt_8 : decode b_X_nearestAt 8 = .ok (.aload_n 0, 1) := by decide +kernel
theorem d_X_nearestAt_9 : decode b_X_nearestAt 9 = .ok (.getfield 28, 3) := by decide +kernel
theorem d_X_nearestAt_12 : decode b_X_nearestAt 12 = .ok (.if_icmp .gt 53, 3) := by decide +kernel
theorem d_X_nearestAt_15 : decode b_X_nearestAt 15 = .ok (.iload_n 3, 1) := by decide +kernel
theorem d_X_nearestAt_16 : decode b_X_nearestAt 16 = .ok (.istore 4, 2) := by decide +kernel
theorem d_X_nearestAt_18 : decode b_X_nearestAt 18 = .ok (.iload 4, 2) := by decide +kernel
theorem d_X_nearestAt_20 : decode b_X_nearestAt 20 = .ok (.aload_n 0, 1) := by decide +kernel
theorem d_X_nearestAt_21 : decode b_X_nearestAt 21 = .ok (.getfield 28, 3) := by decide +kernel
theorem d_X_nearestAt_24 : decode b_X_nearestAt 24 = .ok (.if_icmp .gt 35, 3) := by decide +kernel
theorem d_X_nearestAt_27 : decode b_X_nearestAt 27 = .ok (.aload_n 0, 1) := by decide +kernel
theorem d_X_nearestAt_28 : decode b_X_nearestAt 28 = .ok (.iload_n 3, 1) := by decide +kernel
theorem d_X_nearestAt_29 : decode b_X_nearestAt 29 = .ok (.iload 4, 2) := by decide +kernel
theorem d_X_nearestAt_31 : decode b_X_nearestAt 31 = .ok (.invokevirtual 78, 3) := by decide +kernel
theorem d_X_nearestAt_34 : decode b_X_nearestAt 34 = .ok (.istore 5, 2) := by decide +kernel
theorem d_X_nearestAt_36 : decode b_X_nearestAt 36 = .ok (.iload 5, 2) := by decide +kernel
theorem d_X_nearestAt_38 : decode b_X_nearestAt 38 = .ok (.iload_n 1, 1) := by decide +kernel
theorem d_X_nearestAt_39 : decode b_X_nearestAt 39 = .ok (.if_icmp .ge 14, 3) := by decide +kernel
theorem d_X_nearestAt_42 : decode b_X_nearestAt 42 = .ok (.iload 5, 2) := by decide +kernel
theorem d_X_nearestAt_44 : decode b_X_nearestAt 44 = .ok (.istore_n 1, 1) := by decide +kernel
theorem d_X_nearestAt_45 : decode b_X_nearestAt 45 = .ok (.bipush 16, 2) := by decide +kernel
theorem d_X_nearestAt_47 : decode b_X_nearestAt 47 = .ok (.iload_n 3, 1) := by decide +kernel
theorem d_X_nearestAt_48 : decode b_X_nearestAt 48 = .ok (.imul, 1) := by decide +kernel
theorem d_X_nearestAt_49 : decode b_X_nearestAt 49 = .ok (.iload 4, 2) := by decide +kernel
theorem d_X_nearestAt_51 : decode b_X_nearestAt 51 = .ok (.iadd, 1) := by decide +kernel
theorem d_X_nearestAt_52 : decode b_X_nearestAt 52 = .ok (.istore_n 2, 1) := by decide +kernel
theorem d_X_nearestAt_53 : decode b_X_nearestAt 53 = .ok (.iinc 4 1, 3) := by decide +kernel
theorem d_X_nearestAt_56 : decode b_X_nearestAt 56 = .ok (.goto (-38), 3) := by decide +kernel
theorem d_X_nearestAt_59 : decode b_X_nearestAt 59 = .ok (.iinc 3 1, 3) := by decide +kernel
theorem d_X_nearestAt_62 : decode b_X_nearestAt 62 = .ok (.goto (-55), 3) := by decide +kernel
theorem d_X_nearestAt_65 : decode b_X_nearestAt 65 = .ok (.iload_n 2, 1) := by decide +kernel
theorem d_X_nearestAt_66 : decode b_X_nearestAt 66 = .ok (.ireturn, 1) := by decide +kernel
theorem d_X_widestOf_0 : decode b_X_widestOf 0 = .ok (.iconst 0, 1) := by decide +kernel
theorem d_X_widestOf_1 : decode b_X_widestOf 1 = .ok (.istore 4, 2) := by decide +kernel
theorem d_X_widestOf_3 : decode b_X_widestOf 3 = .ok (.iconst 0, 1) := by decide +kernel
theorem d_X_widestOf_4 : decode b_X_widestOf 4 = .ok (.istore 5, 2) := by decide +kernel
theorem d_X_widestOf_6 : decode b_X_widestOf 6 = .ok (.iload 5, 2) := by decide +kernel
theorem d_X_widestOf_8 : decode b_X_widestOf 8 = .ok (.iload_n 3, 1) := by decide +kernel
theorem d_X_widestOf_9 : decode b_X_widestOf 9 = .ok (.if_icmp .ge 38, 3) := by decide +kernel
theorem d_X_widestOf_12 : decode b_X_widestOf 12 = .ok (.aload_n 0, 1) := by decide +kernel
theorem d_X_widestOf_13 : decode b_X_widestOf 13 = .ok (.iload_n 1, 1) := by decide +kernel
theorem d_X_widestOf_14 : decode b_X_widestOf 14 = .ok (.iload 5, 2) := by decide +kernel
theorem d_X_widestOf_16 : decode b_X_widestOf 16 = .ok (.iload 5, 2) := by decide +kernel
theorem d_X_widestOf_18 : decode b_X_widestOf 18 = .ok (.iload_n 2, 1) := by decide +kernel
theorem d_X_widestOf_19 : decode b_X_widestOf 19 = .ok (.iadd, 1) := by decide +kernel
theorem d_X_widestOf_20 : decode b_X_widestOf 20 = .ok (.invokevirtual 67, 3) := by decide +kernel
theorem d_X_widestOf_23 : decode b_X_widestOf 23 = .ok (.istore 6, 2) := by decide +kernel
theorem d_X_widestOf_25 : decode b_X_widestOf 25 = .ok (.iload 6, 2) := by decide +kernel
theorem d_X_widestOf_27 : decode b_X_widestOf 27 = .ok (.iload 4, 2) := by decide +kernel
theorem d_X_widestOf_29 : decode b_X_widestOf 29 = .ok (.if_icmp .le 8, 3) := by decide +kernel
theorem d_X_widestOf_32 : decode b_X_widestOf 32 = .ok (.iload 6, 2) := by decide +kernel
theorem d_X_widestOf_34 : decode b_X_widestOf 34 = .ok (.goto 5, 3) := by decide +kernel
theorem d_X_widestOf_37 : decode b_X_widestOf 37 = .ok (.iload 4, 2) := by decide +kernel
theorem d_X_widestOf_39 : decode b_X_widestOf 39 = .ok (.istore 4, 2) := by decide +kernel
theorem d_X_widestOf_41 : decode b_X_widestOf 41 = .ok (.iinc 5 1, 3) := by decide +kernel
theorem d_X_widestOf_44 : decode b_X_widestOf 44 = .ok (.goto (-38), 3) := by decide +kernel
theorem d_X_widestOf_47 : decode b_X_widestOf 47 = .ok (.iload 4, 2) := by decide +kernel
theorem d_X_widestOf_49 : decode b_X_widestOf 49 = .ok (.ireturn, 1) := by decide +kernel
theorem d_X_shortest_0 : decode b_X_shortest 0 = .ok (.iconst 0, 1) := by decide +kernel
theorem d_X_shortest_1 : decode b_X_shortest 1 = .ok (.istore_n 2, 1) := by decide +kernel
theorem d_X_shortest_2 : decode b_X_shortest 2 = .ok (.iload_n 2, 1) := by decide +kernel
theorem d_X_shortest_3 : decode b_X_shortest 3 = .ok (.aload_n 0, 1) := by decide +kernel
theorem d_X_shortest_4 : decode b_X_shortest 4 = .ok (.getfield 28, 3) := by decide +kernel
theorem d_X_shortest_7 : decode b_X_shortest 7 = .ok (.if_icmp .gt 31, 3) := by decide +kernel
theorem d_X_shortest_10 : decode b_X_shortest 10 = .ok (.aload_n 0, 1) := by decide +kernel
theorem d_X_shortest_11 : decode b_X_shortest 11 = .ok (.iconst 0, 1) := by decide +kernel
theorem d_X_shortest_12 : decode b_X_shortest 12 = .ok (.iload_n 2, 1) := by decide +kernel
theorem d_X_shortest_13 : decode b_X_shortest 13 = .ok (.aload_n 0, 1) := by decide +kernel
theorem d_X_shortest_14 : decode b_X_shortest 14 = .ok (.getfield 28, 3) := by decide +kernel
theorem d_X_shortest_17 : decode b_X_shortest 17 = .ok (.iload_n 2, 1) := by decide +kernel
theorem d_X_shortest_18 : decode b_X_shortest 18 = .ok (.isub, 1) := by decide +kernel
theorem d_X_shortest_19 : decode b_X_shortest 19 = .ok (.iconst 1, 1) := by decide +kernel
theorem d_X_shortest_20 : decode b_X_shortest 20 = .ok (.iadd, 1) := by decide +kernel
theorem d_X_shortest_21 : decode b_X_shortest 21 = .ok (.invokevirtual 85, 3) := by decide +kernel
theorem d_X_shortest_24 : decode b_X_shortest 24 = .ok (.istore_n 3, 1) := by decide +kernel
theorem d_X_shortest_25 : decode b_X_shortest 25 = .ok (.iload_n 3, 1) := by decide +kernel
theorem d_X_shortest_26 : decode b_X_shortest 26 = .ok (.iload_n 1, 1) := by decide +kernel
theorem d_X_shortest_27 : decode b_X_shortest 27 = .ok (.if_icmp .lt 5, 3) := by decide +kernel
theorem d_X_shortest_30 : decode b_X_shortest 30 = .ok (.iload_n 2, 1) := by decide +kernel
theorem d_X_shortest_31 : decode b_X_shortest 31 = .ok (.ireturn, 1) := by decide +kernel
theorem d_X_shortest_32 : decode b_X_shortest 32 = .ok (.iinc 2 1, 3) := by decide +kernel
theorem d_X_shortest_35 : decode b_X_shortest 35 = .ok (.goto (-33), 3) := by decide +kernel
theorem d_X_shortest_38 : decode b_X_shortest 38 = .ok (.bipush (-4), 2) := by decide +kernel
theorem d_X_shortest_40 : decode b_X_shortest 40 = .ok (.ireturn, 1) := by decide +kernel
theorem d_X_widest_0 : decode b_X_widest 0 = .ok (.iload_n 1, 1) := by decide +kernel
theorem d_X_widest_1 : decode b_X_widest 1 = .ok (.ifCond .lt 11, 3) := by decide +kernel
theorem d_X_widest_4 : decode b_X_widest 4 = .ok (.iload_n 1, 1) := by decide +kernel
theorem d_X_widest_5 : decode b_X_widest 5 = .ok (.aload_n 0, 1) := by decide +kernel
theorem d_X_widest_6 : decode b_X_widest 6 = .ok (.getfield 28, 3) := by decide +kernel
theorem d_X_widest_9 : decode b_X_widest 9 = .ok (.if_icmp .le 6, 3) := by decide +kernel
theorem d_X_widest_12 : decode b_X_widest 12 = .ok (.bipush (-4), 2) := by decide +kernel
theorem d_X_widest_14 : decode b_X_widest 14 = .ok (.ireturn, 1) := by decide +kernel
theorem d_X_widest_15 : decode b_X_widest 15 = .ok (.aload_n 0, 1) := by decide +kernel
theorem d_X_widest_16 : decode b_X_widest 16 = .ok (.iconst 0, 1) := by decide +kernel
theorem d_X_widest_17 : decode b_X_widest 17 = .ok (.iload_n 1, 1) := by decide +kernel
theorem d_X_widest_18 : decode b_X_widest 18 = .ok (.aload_n 0, 1) := by decide +kernel
theorem d_X_widest_19 : decode b_X_widest 19 = .ok (.getfield 28, 3) := by decide +kernel
theorem d_X_widest_22 : decode b_X_widest 22 = .ok (.iload_n 1, 1) := by decide +kernel
theorem d_X_widest_23 : decode b_X_widest 23 = .ok (.isub, 1) := by decide +kernel
theorem d_X_widest_24 : decode b_X_widest 24 = .ok (.iconst 1, 1) := by decide +kernel
theorem d_X_widest_25 : decode b_X_widest 25 = .ok (.iadd, 1) := by decide +kernel
theorem d_X_widest_26 : decode b_X_widest 26 = .ok (.invokevirtual 85, 3) := by decide +kernel
theorem d_X_widest_29 : decode b_X_widest 29 = .ok (.ireturn, 1) := by decide +kernel
theorem d_X_rotated_0 : decode b_X_rotated 0 = .ok (.aload_n 0, 1) := by decide +kernel
theorem d_X_rotated_1 : decode b_X_rotated 1 = .ok (.getfield 28, 3) := by decide +kernel
theorem d_X_rotated_4 : decode b_X_rotated 4 = .ok (.ifCond .ne 5, 3) := by decide +kernel
theorem d_X_rotated_7 : decode b_X_rotated 7 = .ok (.iconst 0, 1) := by decide +kernel
theorem d_X_rotated_8 : decode b_X_rotated 8 = .ok (.ireturn, 1) := by decide +kernel
theorem d_X_rotated_9 : decode b_X_rotated 9 = .ok (.aload_n 0, 1) := by decide +kernel
theorem d_X_rotated_10 : decode b_X_rotated 10 = .ok (.iconst 2, 1) := by decide +kernel
theorem d_X_rotated_11 : decode b_X_rotated 11 = .ok (.aload_n 0, 1) := by decide +kernel
theorem d_X_rotated_12 : decode b_X_rotated 12 = .ok (.getfield 50, 3) := by decide +kernel
theorem d_X_rotated_15 : decode b_X_rotated 15 = .ok (.iconst 2, 1) := by decide +kernel
theorem d_X_rotated_16 : decode b_X_rotated 16 = .ok (.aload_n 0, 1) := by decide +kernel
theorem d_X_rotated_17 : decode b_X_rotated 17 = .ok (.getfield 28, 3) := by decide +kernel
theorem d_X_rotated_20 : decode b_X_rotated 20 = .ok (.imul, 1) := by decide +kernel
theorem d_X_rotated_21 : decode b_X_rotated 21 = .ok (.invokevirtual 53, 3) := by decide +kernel
theorem d_X_rotated_24 : decode b_X_rotated 24 = .ok (.aload_n 0, 1) := by decide +kernel
theorem d_X_rotated_25 : decode b_X_rotated 25 = .ok (.iconst 2, 1) := by decide +kernel
theorem d_X_rotated_26 : decode b_X_rotated 26 = .ok (.aload_n 0, 1) := by decide +kernel
theorem d_X_rotated_27 : decode b_X_rotated 27 = .ok (.getfield 28, 3) := by decide +kernel
theorem d_X_rotated_30 : decode b_X_rotated 30 = .ok (.aload_n 0, 1) := by decide +kernel
theorem d_X_rotated_31 : decode b_X_rotated 31 = .ok (.getfield 28, 3) := by decide +kernel
theorem d_X_rotated_34 : decode b_X_rotated 34 = .ok (.invokevirtual 85, 3) := by decide +kernel
theorem d_X_rotated_37 : decode b_X_rotated 37 = .ok (.ireturn, 1) := by decide +kernel
theorem d_X_tight_0 : decode b_X_tight 0 = .ok (.aload_n 0, 1) := by decide +kernel
theorem d_X_tight_1 : decode b_X_tight 1 = .ok (.getfield 28, 3) := by decide +kernel
theorem d_X_tight_4 : decode b_X_tight 4 = .ok (.iconst 1, 1) := by decide +kernel
theorem d_X_tight_5 : decode b_X_tight 5 = .ok (.iadd, 1) := by decide +kernel
theorem d_X_tight_6 : decode b_X_tight 6 = .ok (.istore_n 1, 1) := by decide +kernel
theorem d_X_tight_7 : decode b_X_tight 7 = .ok (.iconst 0, 1) := by decide +kernel
theorem d_X_tight_8 : decode b_X_tight 8 = .ok (.istore_n 2, 1) := by decide +kernel
theorem d_X_tight_9 : decode b_X_tight 9 = .ok (.iload_n 2, 1) := by decide +kernel
theorem d_X_tight_10 : decode b_X_tight 10 = .ok (.aload_n 0, 1) := by decide +kernel
theorem d_X_tight_11 : decode b_X_tight 11 = .ok (.getfield 28, 3) := by decide +kernel
theorem d_X_tight_14 : decode b_X_tight 14 = .ok (.if_icmp .ge 75, 3) := by decide +kernel
theorem d_X_tight_17 : decode b_X_tight 17 = .ok (.iload_n 2, 1) := by decide +kernel
theorem d_X_tight_18 : decode b_X_tight 18 = .ok (.iconst 1, 1) := by decide +kernel
theorem d_X_tight_19 : decode b_X_tight 19 = .ok (.iadd, 1) := by decide +kernel
theorem d_X_tight_20 : decode b_X_tight 20 = .ok (.istore_n 3, 1) := by decide +kernel
theorem d_X_tight_21 : decode b_X_tight 21 = .ok (.iload_n 3, 1) := by decide +kernel
theorem d_X_tight_22 : decode b_X_tight 22 = .ok (.aload_n 0, 1) := by decide +kernel
theorem d_X_tight_23 : decode b_X_tight 23 = .ok (.getfield 28, 3) := by decide +kernel
theorem d_X_tight_26 : decode b_X_tight 26 = .ok (.if_icmp .gt 57, 3) := by decide +kernel
theorem d_X_tight_29 : decode b_X_tight 29 = .ok (.aload_n 0, 1) := by decide +kernel
theorem d_X_tight_30 : decode b_X_tight 30 = .ok (.iconst 0, 1) := by decide +kernel
theorem d_X_tight_31 : decode b_X_tight 31 = .ok (.iload_n 2, 1) := by decide +kernel
theorem d_X_tight_32 : decode b_X_tight 32 = .ok (.iload_n 3, 1) := by decide +kernel
theorem d_X_tight_33 : decode b_X_tight 33 = .ok (.invokevirtual 67, 3) := by decide +kernel
theorem d_X_tight_36 : decode b_X_tight 36 = .ok (.istore 4, 2) := by decide +kernel
theorem d_X_tight_38 : decode b_X_tight 38 = .ok (.aload_n 0, 1) := by decide +kernel
theorem d_X_tight_39 : decode b_X_tight 39 = .ok (.iconst 0, 1) := by decide +kernel
theorem d_X_tight_40 : decode b_X_tight 40 = .ok (.iload_n 2, 1) := by decide +kernel
theorem d_X_tight_41 : decode b_X_tight 41 = .ok (.iload_n 3, 1) := by decide +kernel
theorem d_X_tight_42 : decode b_X_tight 42 = .ok (.iconst 1, 1) := by decide +kernel
theorem d_X_tight_43 : decode b_X_tight 43 = .ok (.isub, 1) := by decide +kernel
theorem d_X_tight_44 : decode b_X_tight 44 = .ok (.invokevirtual 67, 3) := by decide +kernel
theorem d_X_tight_47 : decode b_X_tight 47 = .ok (.istore 5, 2) := by decide +kernel
theorem d_X_tight_49 : decode b_X_tight 49 = .ok (.aload_n 0, 1) := by decide +kernel
theorem d_X_tight_50 : decode b_X_tight 50 = .ok (.iconst 0, 1) := by decide +kernel
theorem d_X_tight_51 : decode b_X_tight 51 = .ok (.iload_n 2, 1) := by decide +kernel
theorem d_X_tight_52 : decode b_X_tight 52 = .ok (.iconst 1, 1) := by decide +kernel
theorem d_X_tight_53 : decode b_X_tight 53 = .ok (.iadd, 1) := by decide +kernel
theorem d_X_tight_54 : decode b_X_tight 54 = .ok (.iload_n 3, 1) := by decide +kernel
theorem d_X_tight_55 : decode b_X_tight 55 = .ok (.invokevirtual 67, 3) := by decide +kernel
theorem d_X_tight_58 : decode b_X_tight 58 = .ok (.istore 6, 2) := by decide +kernel
theorem d_X_tight_60 : decode b_X_tight 60 = .ok (.iload 4, 2) := by decide +kernel
theorem d_X_tight_62 : decode b_X_tight 62 = .ok (.iload 5, 2) := by decide +kernel
theorem d_X_tight_64 : decode b_X_tight 64 = .ok (.if_icmp .le 13, 3) := by decide +kernel
theorem d_X_tight_67 : decode b_X_tight 67 = .ok (.iload 4, 2) := by decide +kernel
theorem d_X_tight_69 : decode b_X_tight 69 = .ok (.iload 6, 2) := by decide +kernel
theorem d_X_tight_71 : decode b_X_tight 71 = .ok (.if_icmp .le 6, 3) := by decide +kernel
theorem d_X_tight_74 : decode b_X_tight 74 = .ok (.iinc 1 1, 3) := by decide +kernel
theorem d_X_tight_77 : decode b_X_tight 77 = .ok (.iinc 3 1, 3) := by decide +kernel
theorem d_X_tight_80 : decode b_X_tight 80 = .ok (.goto (-59), 3) := by decide +kernel
theorem d_X_tight_83 : decode b_X_tight 83 = .ok (.iinc 2 1, 3) := by decide +kernel
theorem d_X_tight_86 : decode b_X_tight 86 = .ok (.goto (-77), 3) := by decide +kernel
theorem d_X_tight_89 : decode b_X_tight 89 = .ok (.iload_n 1, 1) := by decide +kernel
theorem d_X_tight_90 : decode b_X_tight 90 = .ok (.ireturn, 1) := by decide +kernel
end
section
/-! decode rows of Y; printed by gen_names.py -/
theorem d_Y_init_0 : decode b_Y_init 0 = .ok (.aload_n 0, 1) := by decide +kernel
theorem d_Y_init_1 : decode b_Y_init 1 = .ok (.invokespecial 1, 3) := by decide +kernel
theorem d_Y_init_4 : decode b_Y_init 4 = .ok (.aload_n 0, 1) := by decide +kernel
theorem d_Y_init_5 : decode b_Y_init 5 = .ok (.bipush 10, 2) := by decide +kernel
theorem d_Y_init_7 : decode b_Y_init 7 = .ok (.newarray .int, 2) := by decide +kernel
theorem d_Y_init_9 : decode b_Y_init 9 = .ok (.putfield 7, 3) := by decide +kernel
theorem d_Y_init_12 : decode b_Y_init 12 = .ok (.aload_n 0, 1) := by decide +kernel
theorem d_Y_init_13 : decode b_Y_init 13 = .ok (.bipush 14, 2) := by decide +kernel
theorem d_Y_init_15 : decode b_Y_init 15 = .ok (.newarray .int, 2) := by decide +kernel
theorem d_Y_init_17 : decode b_Y_init 17 = .ok (.putfield 13, 3) := by decide +kernel
theorem d_Y_init_20 : decode b_Y_init 20 = .ok (.aload_n 0, 1) := by decide +kernel
theorem d_Y_init_21 : decode b_Y_init 21 = .ok (.sipush 165, 3) := by decide +kernel
theorem d_Y_init_24 : decode b_Y_init 24 = .ok (.newarray .int, 2) := by decide +kernel
theorem d_Y_init_26 : decode b_Y_init 26 = .ok (.putfield 16, 3) := by decide +kernel
theorem d_Y_init_29 : decode b_Y_init 29 = .ok (.aload_n 0, 1) := by decide +kernel
theorem d_Y_init_30 : decode b_Y_init 30 = .ok (.sipush 225, 3) := by decide +kernel
theorem d_Y_init_33 : decode b_Y_init 33 = .ok (.newarray .int, 2) := by decide +kernel
theorem d_Y_init_35 : decode b_Y_init 35 = .ok (.putfield 19, 3) := by decide +kernel
theorem d_Y_init_38 : decode b_Y_init 38 = .ok (.return_, 1) := by decide +kernel
theorem d_Y_isLetter_0 : decode b_Y_isLetter 0 = .ok (.iload_n 1, 1) := by decide +kernel
theorem d_Y_isLetter_1 : decode b_Y_isLetter 1 = .ok (.ifCond .lt 12, 3) := by decide +kernel
theorem d_Y_isLetter_4 : decode b_Y_isLetter 4 = .ok (.iload_n 1, 1) := by decide +kernel
theorem d_Y_isLetter_5 : decode b_Y_isLetter 5 = .ok (.iconst 3, 1) := by decide +kernel
theorem d_Y_isLetter_6 : decode b_Y_isLetter 6 = .ok (.if_icmp .gt 7, 3) := by decide +kernel
theorem d_Y_isLetter_9 : decode b_Y_isLetter 9 = .ok (.iconst 1, 1) := by decide +kernel
theorem d_Y_isLetter_10 : decode b_Y_isLetter 10 = .ok (.goto 4, 3) := by decide +kernel
theorem d_Y_isLetter_13 : decode b_Y_isLetter 13 = .ok (.iconst 0, 1) := by decide +kernel
theorem d_Y_isLetter_14 : decode b_Y_isLetter 14 = .ok (.ireturn, 1) := by decide +kernel
theorem d_Y_growA_0 : decode b_Y_growA 0 = .ok (.aload_n 0, 1) := by decide +kernel
theorem d_Y_growA_1 : decode b_Y_growA 1 = .ok (.iload_n 1, 1) := by decide +kernel
theorem d_Y_growA_2 : decode b_Y_growA 2 = .ok (.invokevirtual 22, 3) := by decide +kernel
theorem d_Y_growA_5 : decode b_Y_growA 5 = .ok (.ifCond .ne 5, 3) := by decide +kernel
theorem d_Y_growA_8 : decode b_Y_growA 8 = .ok (.iconst (-1), 1) := by decide +kernel
theorem d_Y_growA_9 : decode b_Y_growA 9 = .ok (.ireturn, 1) := by decide +kernel
theorem d_Y_growA_10 : decode b_Y_growA 10 = .ok (.aload_n 0, 1) := by decide +kernel
theorem d_Y_growA_11 : decode b_Y_growA 11 = .ok (.getfield 26, 3) := by decide +kernel
theorem d_Y_growA_14 : decode b_Y_growA 14 = .ok (.bipush 10, 2) := by decide +kernel
theorem d_Y_growA_16 : decode b_Y_growA 16 = .ok (.if_icmp .ne 6, 3) := by decide +kernel
theorem d_Y_growA_19 : decode b_Y_growA 19 = .ok (.bipush (-2), 2) := by decide +kernel
theorem d_Y_growA_21 : decode b_Y_growA 21 = .ok (.ireturn, 1) := by decide +kernel
theorem d_Y_growA_22 : decode b_Y_growA 22 = .ok (.aload_n 0, 1) := by decide +kernel
theorem d_Y_growA_23 : decode b_Y_growA 23 = .ok (.getfield 7, 3) := by decide +kernel
theorem d_Y_growA_26 : decode b_Y_growA 26 = .ok (.aload_n 0, 1) := by decide +kernel
theorem d_Y_growA_27 : decode b_Y_growA 27 = .ok (.getfield 26, 3) := by decide +kernel
theorem d_Y_growA_30 : decode b_Y_growA 30 = .ok (.iload_n 1, 1) := by decide +kernel
theorem d_Y_growA_31 : decode b_Y_growA 31 = .ok (.iastore, 1) := by decide +kernel
theorem d_Y_growA_32 : decode b_Y_growA 32 = .ok (.aload_n 0, 1) := by decide +kernel
theorem d_Y_growA_33 : decode b_Y_growA 33 = .ok (.dup, 1) := by decide +kernel
theorem d_Y_growA_34 : decode b_Y_growA 34 = .ok (.getfield 26, 3) := by decide +kernel
theorem d_Y_growA_37 : decode b_Y_growA 37 = .ok (.iconst 1, 1) := by decide +kernel
theorem d_Y_growA_38 : decode b_Y_growA 38 = .ok (.iadd, 1) := by decide +kernel
theorem d_Y_growA_39 : decode b_Y_growA 39 = .ok (.putfield 26, 3) := by decide +kernel
theorem d_Y_growA_42 : decode b_Y_growA 42 = .ok (.aload_n 0, 1) := by decide +kernel
theorem d_Y_growA_43 : decode b_Y_growA 43 = .ok (.getfield 26, 3) := by decide +kernel
theorem d_Y_growA_46 : decode b_Y_growA 46 = .ok (.ireturn, 1) := by decide +kernel
theorem d_Y_growB_0 : decode b_Y_growB 0 = .ok (.aload_n 0, 1) := by decide +kernel
theorem d_Y_growB_1 : decode b_Y_growB 1 = .ok (.iload_n 1, 1) := by decide +kernel
theorem d_Y_growB_2 : decode b_Y_growB 2 = .ok (.invokevirtual 22, 3) := by decide +kernel
theorem d_Y_growB_5 : decode b_Y_growB 5 = .ok (.ifCond .ne 5, 3) := by decide +kernel
theorem d_Y_growB_8 : decode b_Y_growB 8 = .ok (.iconst (-1), 1) := by decide +kernel
theorem d_Y_growB_9 : decode b_Y_growB 9 = .ok (.ireturn, 1) := by decide +kernel
theorem d_Y_growB_10 : decode b_Y_growB 10 = .ok (.aload_n 0, 1) := by decide +kernel
theorem d_Y_growB_11 : decode b_Y_growB 11 = .ok (.getfield 30, 3) := by decide +kernel
theorem d_Y_growB_14 : decode b_Y_growB 14 = .ok (.bipush 14, 2) := by decide +kernel
theorem d_Y_growB_16 : decode b_Y_growB 16 = .ok (.if_icmp .ne 6, 3) := by decide +kernel
theorem d_Y_growB_19 : decode b_Y_growB 19 = .ok (.bipush (-2), 2) := by decide +kernel
theorem d_Y_growB_21 : decode b_Y_growB 21 = .ok (.ireturn, 1) := by decide +kernel
theorem d_Y_growB_22 : decode b_Y_growB 22 = .ok (.aload_n 0, 1) := by decide +kernel
theorem d_Y_growB_23 : decode b_Y_growB 23 = .ok (.getfield 13, 3) := by decide +kernel
theorem d_Y_growB_26 : decode b_Y_growB 26 = .ok (.aload_n 0, 1) := by decide +kernel
theorem d_Y_growB_27 : decode b_Y_growB 27 = .ok (.getfield 30, 3) := by decide +kernel
theorem d_Y_growB_30 : decode b_Y_growB 30 = .ok (.iload_n 1, 1) := by decide +kernel
theorem d_Y_growB_31 : decode b_Y_growB 31 = .ok (.iastore, 1) := by decide +kernel
theorem d_Y_growB_32 : decode b_Y_growB 32 = .ok (.aload_n 0, 1) := by decide +kernel
theorem d_Y_growB_33 : decode b_Y_growB 33 = .ok (.dup, 1) := by decide +kernel
theorem d_Y_growB_34 : decode b_Y_growB 34 = .ok (.getfield 30, 3) := by decide +kernel
theorem d_Y_growB_37 : decode b_Y_growB 37 = .ok (.iconst 1, 1) := by decide +kernel
theorem d_Y_growB_38 : decode b_Y_growB 38 = .ok (.iadd, 1) := by decide +kernel
theorem d_Y_growB_39 : decode b_Y_growB 39 = .ok (.putfield 30, 3) := by decide +kernel
theorem d_Y_growB_42 : decode b_Y_growB 42 = .ok (.aload_n 0, 1) := by decide +kernel
theorem d_Y_growB_43 : decode b_Y_growB 43 = .ok (.getfield 30, 3) := by decide +kernel
theorem d_Y_growB_46 : decode b_Y_growB 46 = .ok (.ireturn, 1) := by decide +kernel
theorem d_Y_putA_0 : decode b_Y_putA 0 = .ok (.iload_n 1, 1) := by decide +kernel
theorem d_Y_putA_1 : decode b_Y_putA 1 = .ok (.ifCond .lt 19, 3) := by decide +kernel
theorem d_Y_putA_4 : decode b_Y_putA 4 = .ok (.iload_n 1, 1) := by decide +kernel
theorem d_Y_putA_5 : decode b_Y_putA 5 = .ok (.aload_n 0, 1) := by decide +kernel
theorem d_Y_putA_6 : decode b_Y_putA 6 = .ok (.getfield 26, 3) := by decide +kernel
theorem d_Y_putA_9 : decode b_Y_putA 9 = .ok (.if_icmp .ge 11, 3) := by decide +kernel
theorem d_Y_putA_12 : decode b_Y_putA 12 = .ok (.aload_n 0, 1) := by decide +kernel
theorem d_Y_putA_13 : decode b_Y_putA 13 = .ok (.iload_n 2, 1) := by decide +kernel
theorem d_Y_putA_14 : decode b_Y_putA 14 = .ok (.invokevirtual 22, 3) := by decide +kernel
theorem d_Y_putA_17 : decode b_Y_putA 17 = .ok (.ifCond .ne 5, 3) := by decide +kernel
theorem d_Y_putA_20 : decode b_Y_putA 20 = .ok (.iconst (-1), 1) := by decide +kernel
theorem d_Y_putA_21 : decode b_Y_putA 21 = .ok (.ireturn, 1) := by decide +kernel
theorem d_Y_putA_22 : decode b_Y_putA 22 = .ok (.aload_n 0, 1) := by decide +kernel
theorem d_Y_putA_23 : decode b_Y_putA 23 = .ok (.getfield 7, 3) := by decide +kernel
theorem d_Y_putA_26 : decode b_Y_putA 26 = .ok (.iload_n 1, 1) := by decide +kernel
theorem d_Y_putA_27 : decode b_Y_putA 27 = .ok (.iaload, 1) := by decide +kernel
theorem d_Y_putA_28 : decode b_Y_putA 28 = .ok (.istore_n 3, 1) := by decide +kernel
theorem d_Y_putA_29 : decode b_Y_putA 29 = .ok (.aload_n 0, 1) := by decide +kernel
theorem d_Y_putA_30 : decode b_Y_putA 30 = .ok (.getfield 7, 3) := by decide +kernel
theorem d_Y_putA_33 : decode b_Y_putA 33 = .ok (.iload_n 1, 1) := by decide +kernel
theorem d_Y_putA_34 : decode b_Y_putA 34 = .ok (.iload_n 2, 1) := by decide +kernel
theorem d_Y_putA_35 : decode b_Y_putA 35 = .ok (.iastore, 1) := by decide +kernel
theorem d_Y_putA_36 : decode b_Y_putA 36 = .ok (.iload_n 3, 1) := by decide +kernel
theorem d_Y_putA_37 : decode b_Y_putA 37 = .ok (.ireturn, 1) := by decide +kernel
theorem d_Y_shiftB_0 : decode b_Y_shiftB 0 = .ok (.aload_n 0, 1) := by decide +kernel
theorem d_Y_shiftB_1 : decode b_Y_shiftB 1 = .ok (.getfield 30, 3) := by decide +kernel
theorem d_Y_shiftB_4 : decode b_Y_shiftB 4 = .ok (.ifCond .ne 6, 3) := by decide +kernel
theorem d_Y_shiftB_7 : decode b_Y_shiftB 7 = .ok (.bipush (-4), 2) := by decide +kernel
theorem d_Y_shiftB_9 : decode b_Y_shiftB 9 = .ok (.ireturn, 1) := by decide +kernel
theorem d_Y_shiftB_10 : decode b_Y_shiftB 10 = .ok (.aload_n 0, 1) := by decide +kernel
theorem d_Y_shiftB_11 : decode b_Y_shiftB 11 = .ok (.getfield 13, 3) := by decide +kernel
theorem d_Y_shiftB_14 : decode b_Y_shiftB 14 = .ok (.iconst 0, 1) := by decide +kernel
theorem d_Y_shiftB_15 : decode b_Y_shiftB 15 = .ok (.iaload, 1) := by decide +kernel
theorem d_Y_shiftB_16 : decode b_Y_shiftB 16 = .ok (.istore_n 1, 1) := by decide +kernel
theorem d_Y_shiftB_17 : decode b_Y_shiftB 17 = .ok (.iconst 1, 1) := by decide +kernel
theorem d_Y_shiftB_18 : decode b_Y_shiftB 18 = .ok (.istore_n 2, 1) := by decide +kernel
theorem d_Y_shiftB_19 : decode b_Y_shiftB 19 = .ok (.iload_n 2, 1) := by decide +kernel
theorem d_Y_shiftB_20 : decode b_Y_shiftB 20 = .ok (.aload_n 0, 1) := by decide +kernel
theorem d_Y_shiftB_21 : decode b_Y_shiftB 21 = .ok (.getfield 30, 3) := by decide +kernel
theorem d_Y_shiftB_24 : decode b_Y_shiftB 24 = .ok (.if_icmp .ge 23, 3) := by decide +kernel
theorem d_Y_shiftB_27 : decode b_Y_shiftB 27 = .ok (.aload_n 0, 1) := by decide +kernel
theorem d_Y_shiftB_28 : decode b_Y_shiftB 28 = .ok (.getfield 13, 3) := by decide +kernel
theorem d_Y_shiftB_31 : decode b_Y_shiftB 31 = .ok (.iload_n 2, 1) := by decide +kernel
theorem d_Y_shiftB_32 : decode b_Y_shiftB 32 = .ok (.iconst 1, 1) := by decide +kernel
theorem d_Y_shiftB_33 : decode b_Y_shiftB 33 = .ok (.isub, 1) := by decide +kernel
theorem d_Y_shiftB_34 : decode b_Y_shiftB 34 = .ok (.aload_n 0, 1) := by decide +kernel
theorem d_Y_shiftB_35 : decode b_Y_shiftB 35 = .ok (.getfield 13, 3) := by decide +kernel
theorem d_Y_shiftB_38 : decode b_Y_shiftB 38 = .ok (.iload_n 2, 1) := by decide +kernel
theorem d_Y_shiftB_39 : decode b_Y_shiftB 39 = .ok (.iaload, 1) := by decide +kernel
theorem d_Y_shiftB_40 : decode b_Y_shiftB 40 = .ok (.iastore, 1) := by decide +kernel
theorem d_Y_shiftB_41 : decode b_Y_shiftB 41 = .ok (.iinc 2 1, 3) := by decide +kernel
theorem d_Y_shiftB_44 : decode b_Y_shiftB 44 = .ok (.goto (-25), 3) := by decide +kernel
theorem d_Y_shiftB_47 : decode b_Y_shiftB 47 = .ok (.aload_n 0, 1) := by decide +kernel
theorem d_Y_shiftB_48 : decode b_Y_shiftB 48 = .ok (.dup, 1) := by decide +kernel
theorem d_Y_shiftB_49 : decode b_Y_shiftB 49 = .ok (.getfield 30, 3) := by decide +kernel
theorem d_Y_shiftB_52 : decode b_Y_shiftB 52 = .ok (.iconst 1, 1) := by decide +kernel
theorem d_Y_shiftB_53 : decode b_Y_shiftB 53 = .ok (.isub, 1) := by decide +kernel
theorem d_Y_shiftB_54 : decode b_Y_shiftB 54 = .ok (.putfield 30, 3) := by decide +kernel
theorem d_Y_shiftB_57 : decode b_Y_shiftB 57 = .ok (.iload_n 1, 1) := by decide +kernel
theorem d_Y_shiftB_58 : decode b_Y_shiftB 58 = .ok (.ireturn, 1) := by decide +kernel
theorem d_Y_clear_0 : decode b_Y_clear 0 = .ok (.aload_n 0, 1) := by decide +kernel
theorem d_Y_clear_1 : decode b_Y_clear 1 = .ok (.iconst 0, 1) := by decide +kernel
theorem d_Y_clear_2 : decode b_Y_clear 2 = .ok (.putfield 26, 3) := by decide +kernel
theorem d_Y_clear_5 : decode b_Y_clear 5 = .ok (.aload_n 0, 1) := by decide +kernel
theorem d_Y_clear_6 : decode b_Y_clear 6 = .ok (.iconst 0, 1) := by decide +kernel
theorem d_Y_clear_7 : decode b_Y_clear 7 = .ok (.putfield 30, 3) := by decide +kernel
theorem d_Y_clear_10 : decode b_Y_clear 10 = .ok (.return_, 1) := by decide +kernel
theorem d_Y_lengths_0 : decode b_Y_lengths 0 = .ok (.aload_n 0, 1) := by decide +kernel
theorem d_Y_lengths_1 : decode b_Y_lengths 1 = .ok (.getfield 26, 3) := by decide +kernel
theorem d_Y_lengths_4 : decode b_Y_lengths 4 = .ok (.bipush 16, 2) := by decide +kernel
theorem d_Y_lengths_6 : decode b_Y_lengths 6 = .ok (.aload_n 0, 1) := by decide +kernel
theorem d_Y_lengths_7 : decode b_Y_lengths 7 = .ok (.getfield 30, 3) := by decide +kernel
theorem d_Y_lengths_10 : decode b_Y_lengths 10 = .ok (.imul, 1) := by decide +kernel
theorem d_Y_lengths_11 : decode b_Y_lengths 11 = .ok (.iadd, 1) := by decide +kernel
theorem d_Y_lengths_12 : decode b_Y_lengths 12 = .ok (.ireturn, 1) := by decide +kernel
theorem d_Y_common_0 : decode b_Y_common 0 = .ok (.iconst 0, 1) := by decide +kernel
theorem d_Y_common_1 : decode b_Y_common 1 = .ok (.istore 5, 2) := by decide +kernel
theorem d_Y_common_3 : decode b_Y_common 3 = .ok (.iload 5, 2) := by decide +kernel
theorem d_Y_common_5 : decode b_Y_common 5 = .ok (.iload_n 2, 1) := by decide +kernel
theorem d_Y_common_6 : decode b_Y_common 6 = .ok (.if_icmp .gt 154, 3) := by decide +kernel
theorem d_Y_common_9 : decode b_Y_common 9 = .ok (.iconst 0, 1) := by decide +kernel
theorem d_Y_common_10 : decode b_Y_common 10 = .ok (.istore 6, 2) := by decide +kernel
theorem d_Y_common_12 : decode b_Y_common 12 = .ok (.iload 6, 2) := by decide +kernel
theorem d_Y_common_14 : decode b_Y_common 14 = .ok (.iload 4, 2) := by decide +kernel
theorem d_Y_common_16 : decode b_Y_common 16 = .ok (.if_icmp .gt 138, 3) := by decide +kernel
theorem d_Y_common_19 : decode b_Y_common 19 = .ok (.iconst 0, 1) := by decide +kernel
theorem d_Y_common_20 : decode b_Y_common 20 = .ok (.istore 7, 2) := by decide +kernel
theorem d_Y_common_22 : decode b_Y_common 22 = .ok (.iload 5, 2) := by decide +kernel
theorem d_Y_common_24 : decode b_Y_common 24 = .ok (.ifCond .le 109, 3) := by decide +kernel
theorem d_Y_common_27 : decode b_Y_common 27 = .ok (.iload 6, 2) := by decide +kernel
theorem d_Y_common_29 : decode b_Y_common 29 = .ok (.ifCond .le 104, 3) := by decide +kernel
theorem d_Y_common_32 : decode b_Y_common 32 = .ok (.aload_n 0, 1) := by decide +kernel
theorem d_Y_common_33 : decode b_Y_common 33 = .ok (.getfield 16, 3) := by decide +kernel
theorem d_Y_common_36 : decode b_Y_common 36 = .ok (.iload 5, 2) := by decide +kernel
theorem d_Y_common_38 : decode b_Y_common 38 = .ok (.iconst 1, 1) := by decide +kernel
theorem d_Y_common_39 : decode b_Y_common 39 = .ok (.isub, 1) := by decide +kernel
theorem d_Y_common_40 : decode b_Y_common 40 = .ok (.bipush 15, 2) := by decide +kernel
theorem d_Y_common_42 : decode b_Y_common 42 = .ok (.imul, 1) := by decide +kernel
theorem d_Y_common_43 : decode b_Y_common 43 = .ok (.iload 6, 2) := by decide +kernel
theorem d_Y_common_45 : decode b_Y_common 45 = .ok (.iadd, 1) := by decide +kernel
theorem d_Y_common_46 : decode b_Y_common 46 = .ok (.iaload, 1) := by decide +kernel
theorem d_Y_common_47 : decode b_Y_common 47 = .ok (.istore 8, 2) := by decide +kernel
theorem d_Y_common_49 : decode b_Y_common 49 = .ok (.aload_n 0, 1) := by decide +kernel
theorem d_Y_common_50 : decode b_Y_common 50 = .ok (.getfield 16, 3) := by decide +kernel
theorem d_Y_common_53 : decode b_Y_common 53 = .ok (.iload 5, 2) := by decide +kernel
theorem d_Y_common_55 : decode b_Y_common 55 = .ok (.bipush 15, 2) := by decide +kernel
theorem d_Y_common_57 : decode b_Y_common 57 = .ok (.imul, 1) := by decide +kernel
theorem d_Y_common_58 : decode b_Y_common 58 = .ok (.iload 6, 2) := by decide +kernel
theorem d_Y_common_60 : decode b_Y_common 60 = .ok (.iadd, 1) := by decide +kernel
theorem d_Y_common_61 : decode b_Y_common 61 = .ok (.iconst 1, 1) := by decide +kernel
theorem d_Y_common_62 : decode b_Y_common 62 = .ok (.isub, 1) := by decide +kernel
theorem d_Y_common_63 : decode b_Y_common 63 = .ok (.iaload, 1) := by decide +kernel
theorem d_Y_common_64 : decode b_Y_common 64 = .ok (.istore 9, 2) := by decide +kernel
theorem d_Y_common_66 : decode b_Y_common 66 = .ok (.iload 8, 2) := by decide +kernel
theorem d_Y_common_68 : decode b_Y_common 68 = .ok (.iload 9, 2) := by decide +kernel
theorem d_Y_common_70 : decode b_Y_common 70 = .ok (.if_icmp .le 8, 3) := by decide +kernel
theorem d_Y_common_73 : decode b_Y_common 73 = .ok (.iload 8, 2) := by decide +kernel
theorem d_Y_common_75 : decode b_Y_common 75 = .ok (.goto 5, 3) := by decide +kernel
theorem d_Y_common_78 : decode b_Y_common 78 = .ok (.iload 9, 2) := by decide +kernel
theorem d_Y_common_80 : decode b_Y_common 80 = .ok (.istore 7, 2) := by decide +kernel
theorem d_Y_common_82 : decode b_Y_common 82 = .ok (.aload_n 0, 1) := by decide +kernel
theorem d_Y_common_83 : decode b_Y_common 83 = .ok (.getfield 7, 3) := by decide +kernel
theorem d_Y_common_86 : decode b_Y_common 86 = .ok (.iload_n 1, 1) := by decide +kernel
theorem d_Y_common_87 : decode b_Y_common 87 = .ok (.iload 5, 2) := by decide +kernel
theorem d_Y_common_89 : decode b_Y_common 89 = .ok (.iadd, 1) := by decide +kernel
theorem d_Y_common_90 : decode b_Y_common 90 = .ok (.iconst 1, 1) := by decide +kernel
theorem d_Y_common_91 : decode b_Y_common 91 = .ok (.isub, 1) := by decide +kernel
theorem d_Y_common_92 : decode b_Y_common 92 = .ok (.iaload, 1) := by decide +kernel
theorem d_Y_common_93 : decode b_Y_common 93 = .ok (.aload_n 0, 1) := by decide +kernel
theorem d_Y_common_94 : decode b_Y_common 94 = .ok (.getfield 13, 3) := by decide +kernel
theorem d_Y_common_97 : decode b_Y_common 97 = .ok (.iload_n 3, 1) := by decide +kernel
theorem d_Y_common_98 : decode b_Y_common 98 = .ok (.iload 6, 2) := by decide +kernel
theorem d_Y_common_100 : decode b_Y_common 100 = .ok (.iadd, 1) := by decide +kernel
theorem d_Y_common_101 : decode b_Y_common 101 = .ok (.iconst 1, 1) := by decide +kernel
theorem d_Y_common_102 : decode b_Y_common 102 = .ok (.isub, 1) := by decide +kernel
theorem d_Y_common_103 : decode b_Y_common 103 = .ok (.aload_n 0, 1) := by decide +kernel
theorem d_Y_common_104 : decode b_Y_common 104 = .ok (.getfield 30, 3) := by decide +kernel
theorem d_Y_common_107 : decode b_Y_common 107 = .ok (.irem, 1) := by decide +kernel
theorem d_Y_common_108 : decode b_Y_common 108 = .ok (.iaload, 1) := by decide +kernel
theorem d_Y_common_109 : decode b_Y_common 109 = .ok (.if_icmp .ne 24, 3) := by decide +kernel
theorem d_Y_common_112 : decode b_Y_common 112 = .ok (.aload_n 0, 1) := by decide +kernel
theorem d_Y_common_113 : decode b_Y_common 113 = .ok (.getfield 16, 3) := by decide +kernel
theorem d_Y_common_116 : decode b_Y_common 116 = .ok (.iload 5, 2) := by decide +kernel
theorem d_Y_common_118 : decode b_Y_common 118 = .ok (.iconst 1, 1) := by decide +kernel
theorem d_Y_common_119 : decode b_Y_common 119 = .ok (.isub, 1) := by decide +kernel
theorem d_Y_common_120 : decode b_Y_common 120 = .ok (.bipush 15, 2) := by decide +kernel
theorem d_Y_common_122 : decode b_Y_common 122 = .ok (.imul, 1) := by decide +kernel
theorem d_Y_common_123 : decode b_Y_common 123 = .ok (.iload 6, 2) := by decide +kernel
theorem d_Y_common_125 : decode b_Y_common 125 = .ok (.iadd, 1) := by decide +kernel
theorem d_Y_common_126 : decode b_Y_common 126 = .ok (.iconst 1, 1) := by decide +kernel
theorem d_Y_common_127 : decode b_Y_common 127 = .ok (.isub, 1) := by decide +kernel
theorem d_Y_common_128 : decode b_Y_common 128 = .ok (.iaload, 1) := by decide +kernel
theorem d_Y_common_129 : decode b_Y_common 129 = .ok (.iconst 1, 1) := by decide +kernel
theorem d_Y_common_130 : decode b_Y_common 130 = .ok (.iadd, 1) := by decide +kernel
theorem d_Y_common_131 : decode b_Y_common 131 = .ok (.istore 7, 2) := by decide +kernel
theorem d_Y_common_133 : decode b_Y_common 133 = .ok (.aload_n 0, 1) := by decide +kernel
theorem d_Y_common_134 : decode b_Y_common 134 = .ok (.getfield 16, 3) := by decide +kernel
theorem d_Y_common_137 : decode b_Y_common 137 = .ok (.iload 5, 2) := by decide +kernel
theorem d_Y_common_139 : decode b_Y_common 139 = .ok (.bipush 15, 2) := by decide +kernel
theorem d_Y_common_141 : decode b_Y_common 141 = .ok (.imul, 1) := by decide +kernel
theorem d_Y_common_142 : decode b_Y_common 142 = .ok (.iload 6, 2) := by decide +kernel
theorem d_Y_common_144 : decode b_Y_common 144 = .ok (.iadd, 1) := by decide +kernel
theorem d_Y_common_145 : decode b_Y_common 145 = .ok (.iload 7, 2) := by decide +kernel
theorem d_Y_common_147 : decode b_Y_common 147 = .ok (.iastore, 1) := by decide +kernel
theorem d_Y_common_148 : decode b_Y_common 148 = .ok (.iinc 6 1, 3) := by decide +kernel
theorem d_Y_common_151 : decode b_Y_common 151 = .ok (.goto (-139), 3) := by decide +kernel
theorem d_Y_common_154 : decode b_Y_common 154 = .ok (.iinc 5 1, 3) := by decide +kernel
theorem d_Y_common_157 : decode b_Y_common 157 = .ok (.goto (-154), 3) := by decide +kernel
theorem d_Y_common_160 : decode b_Y_common 160 = .ok (.aload_n 0, 1) := by decide +kernel
theorem d_Y_common_161 : decode b_Y_common 161 = .ok (.getfield 16, 3) := by decide +kernel
theorem d_Y_common_164 : decode b_Y_common 164 = .ok (.iload_n 2, 1) := by decide +kernel
theorem d_Y_common_165 : decode b_Y_common 165 = .ok (.bipush 15, 2) := by decide +kernel
theorem d_Y_common_167 : decode b_Y_common 167 = .ok (.imul, 1) := by decide +kernel
theorem d_Y_common_168 : decode b_Y_common 168 = .ok (.iload 4, 2) := by decide +kernel
theorem d_Y_common_170 : decode b_Y_common 170 = .ok (.iadd, 1) := by decide +kernel
theorem d_Y_common_171 : decode b_Y_common 171 = .ok (.iaload, 1) := by decide +kernel
theorem d_Y_common_172 : decode b_Y_common 172 = .ok (.ireturn, 1) := by decide +kernel
theorem d_Y_least_0 : decode b_Y_least 0 = .ok (.iload_n 1, 1) := by decide +kernel
theorem d_Y_least_1 : decode b_Y_least 1 = .ok (.iload_n 2, 1) := by decide +kernel
theorem d_Y_least_2 : decode b_Y_least 2 = .ok (.if_icmp .ge 7, 3) := by decide +kernel
theorem d_Y_least_5 : decode b_Y_least 5 = .ok (.iload_n 1, 1) := by decide +kernel
theorem d_Y_least_6 : decode b_Y_least 6 = .ok (.goto 4, 3) := by decide +kernel
theorem d_Y_least_9 : decode b_Y_least 9 = .ok (.iload_n 2, 1) := by decide +kernel
theorem d_Y_least_10 : decode b_Y_least 10 = .ok (.ireturn, 1) := by decide +kernel
theorem d_Y_changes_0 : decode b_Y_changes 0 = .ok (.iconst 0, 1) := by decide +kernel
theorem d_Y_changes_1 : decode b_Y_changes 1 = .ok (.istore 5, 2) := by decide +kernel
theorem d_Y_changes_3 : decode b_Y_changes 3 = .ok (.iload 5, 2) := by decide +kernel
theorem d_Y_changes_5 : decode b_Y_changes 5 = .ok (.iload_n 2, 1) := by decide +kernel
theorem d_Y_changes_6 : decode b_Y_changes 6 = .ok (.if_icmp .gt 162, 3) := by decide +kernel
theorem d_Y_changes_9 : decode b_Y_changes 9 = .ok (.iconst 0, 1) := by decide +kernel
theorem d_Y_changes_10 : decode b_Y_changes 10 = .ok (.istore 6, 2) := by decide +kernel
theorem d_Y_changes_12 : decode b_Y_changes 12 = .ok (.iload 6, 2) := by decide +kernel
theorem d_Y_changes_14 : decode b_Y_changes 14 = .ok (.iload 4, 2) := by decide +kernel
theorem d_Y_changes_16 : decode b_Y_changes 16 = .ok (.if_icmp .gt 146, 3) := by decide +kernel
theorem d_Y_changes_19 : decode b_Y_changes 19 = .ok (.iload 5, 2) := by decide +kernel
theorem d_Y_changes_21 : decode b_Y_changes 21 = .ok (.ifCond .ne 8, 3) := by decide +kernel
theorem d_Y_changes_24 : decode b_Y_changes 24 = .ok (.iload 6, 2) := by decide +kernel
theorem d_Y_changes_26 : decode b_Y_changes 26 = .ok (.goto 5, 3) := by decide +kernel
theorem d_Y_changes_29 : decode b_Y_changes 29 = .ok (.iload 5, 2) := by decide +kernel
theorem d_Y_changes_31 : decode b_Y_changes 31 = .ok (.istore 7, 2) := by decide +kernel
theorem d_Y_changes_33 : decode b_Y_changes 33 = .ok (.iload 5, 2) := by decide +kernel
theorem d_Y_changes_35 : decode b_Y_changes 35 = .ok (.ifCond .le 106, 3) := by decide +kernel
theorem d_Y_changes_38 : decode b_Y_changes 38 = .ok (.iload 6, 2) := by decide +kernel
theorem d_Y_changes_40 : decode b_Y_changes 40 = .ok (.ifCond .le 101, 3) := by decide +kernel
theorem d_Y_changes_43 : decode b_Y_changes 43 = .ok (.aload_n 0, 1) := by decide +kernel
theorem d_Y_changes_44 : decode b_Y_changes 44 = .ok (.getfield 7, 3) := by decide +kernel
theorem d_Y_changes_47 : decode b_Y_changes 47 = .ok (.iload_n 1, 1) := by decide +kernel
theorem d_Y_changes_48 : decode b_Y_changes 48 = .ok (.iload 5, 2) := by decide +kernel
theorem d_Y_changes_50 : decode b_Y_changes 50 = .ok (.iadd, 1) := by decide +kernel
theorem d_Y_changes_51 : decode b_Y_changes 51 = .ok (.iconst 1, 1) := by decide +kernel
theorem d_Y_changes_52 : decode b_Y_changes 52 = .ok (.isub, 1) := by decide +kernel
theorem d_Y_changes_53 : decode b_Y_changes 53 = .ok (.iaload, 1) := by decide +kernel
theorem d_Y_changes_54 : decode b_Y_changes 54 = .ok (.aload_n 0, 1) := by decide +kernel
theorem d_Y_changes_55 : decode b_Y_changes 55 = .ok (.getfield 13, 3) := by decide +kernel
theorem d_Y_changes_58 : decode b_Y_changes 58 = .ok (.iload_n 3, 1) := by decide +kernel
theorem d_Y_changes_59 : decode b_Y_changes 59 = .ok (.iload 6, 2) := by decide +kernel
theorem d_Y_changes_61 : decode b_Y_changes 61 = .ok (.iadd, 1) := by decide +kernel
theorem d_Y_changes_62 : decode b_Y_changes 62 = .ok (.iconst 1, 1) := by decide +kernel
theorem d_Y_changes_63 : decode b_Y_changes 63 = .ok (.isub, 1) := by decide +kernel
theorem d_Y_changes_64 : decode b_Y_changes 64 = .ok (.iaload, 1) := by decide +kernel
theorem d_Y_changes_65 : decode b_Y_changes 65 = .ok (.if_icmp .ne 7, 3) := by decide +kernel
theorem d_Y_changes_68 : decode b_Y_changes 68 = .ok (.iconst 0, 1) := by decide +kernel
theorem d_Y_changes_69 : decode b_Y_changes 69 = .ok (.goto 4, 3) := by decide +kernel
theorem d_Y_changes_72 : decode b_Y_changes 72 = .ok (.iconst 1, 1) := by decide +kernel
theorem d_Y_changes_73 : decode b_Y_changes 73 = .ok (.istore 8, 2) := by decide +kernel
theorem d_Y_changes_75 : decode b_Y_changes 75 = .ok (.aload_n 0, 1) := by decide +kernel
theorem d_Y_changes_76 : decode b_Y_changes 76 = .ok (.aload_n 0, 1) := by decide +kernel
theorem d_Y_changes_77 : decode b_Y_changes 77 = .ok (.getfield 16, 3) := by decide +kernel
theorem d_Y_changes_80 : decode b_Y_changes 80 = .ok (.iload 5, 2) := by decide +kernel
theorem d_Y_changes_82 : decode b_Y_changes 82 = .ok (.iconst 1, 1) := by decide +kernel
theorem d_Y_changes_83 : decode b_Y_changes 83 = .ok (.isub, 1) := by decide +kernel
theorem d_Y_changes_84 : decode b_Y_changes 84 = .ok (.bipush 15, 2) := by decide +kernel
theorem d_Y_changes_86 : decode b_Y_changes 86 = .ok (.imul, 1) := by decide +kernel
theorem d_Y_changes_87 : decode b_Y_changes 87 = .ok (.iload 6, 2) := by decide +kernel
theorem d_Y_changes_89 : decode b_Y_changes 89 = .ok (.iadd, 1) := by decide +kernel
theorem d_Y_changes_90 : decode b_Y_changes 90 = .ok (.iaload, 1) := by decide +kernel
theorem d_Y_changes_91 : decode b_Y_changes 91 = .ok (.aload_n 0, 1) := by decide +kernel
theorem d_Y_changes_92 : decode b_Y_changes 92 = .ok (.getfield 16, 3) := by decide +kernel
theorem d_Y_changes_95 : decode b_Y_changes 95 = .ok (.iload 5, 2) := by decide +kernel
theorem d_Y_changes_97 : decode b_Y_changes 97 = .ok (.bipush 15, 2) := by decide +kernel
theorem d_Y_changes_99 : decode b_Y_changes 99 = .ok (.imul, 1) := by decide +kernel
theorem d_Y_changes_100 : decode b_Y_changes 100 = .ok (.iload 6, 2) := by decide +kernel
theorem d_Y_changes_102 : decode b_Y_changes 102 = .ok (.iadd, 1) := by decide +kernel
theorem d_Y_changes_103 : decode b_Y_changes 103 = .ok (.iconst 1, 1) := by decide +kernel
theorem d_Y_changes_104 : decode b_Y_changes 104 = .ok (.isub, 1) := by decide +kernel
theorem d_Y_changes_105 : decode b_Y_changes 105 = .ok (.iaload, 1) := by decide +kernel
theorem d_Y_changes_106 : decode b_Y_changes 106 = .ok (.invokevirtual 33, 3) := by decide +kernel
theorem d_Y_changes_109 : decode b_Y_changes 109 = .ok (.iconst 1, 1) := by decide +kernel
theorem d_Y_changes_110 : decode b_Y_changes 110 = .ok (.iadd, 1) := by decide +kernel
theorem d_Y_changes_111 : decode b_Y_changes 111 = .ok (.istore 9, 2) := by decide +kernel
theorem d_Y_changes_113 : decode b_Y_changes 113 = .ok (.aload_n 0, 1) := by decide +kernel
theorem d_Y_changes_114 : decode b_Y_changes 114 = .ok (.aload_n 0, 1) := by decide +kernel
theorem d_Y_changes_115 : decode b_Y_changes 115 = .ok (.getfield 16, 3) := by decide +kernel
theorem d_Y_changes_118 : decode b_Y_changes 118 = .ok (.iload 5, 2) := by decide +kernel
theorem d_Y_changes_120 : decode b_Y_changes 120 = .ok (.iconst 1, 1) := by decide +kernel
theorem d_Y_changes_121 : decode b_Y_changes 121 = .ok (.isub, 1) := by decide +kernel
theorem d_Y_changes_122 : decode b_Y_changes 122 = .ok (.bipush 15, 2) := by decide +kernel
theorem d_Y_changes_124 : decode b_Y_changes 124 = .ok (.imul, 1) := by decide +kernel
theorem d_Y_changes_125 : decode b_Y_changes 125 = .ok (.iload 6, 2) := by decide +kernel
theorem d_Y_changes_127 : decode b_Y_changes 127 = .ok (.iadd, 1) := by decide +kernel
theorem d_Y_changes_128 : decode b_Y_changes 128 = .ok (.iconst 1, 1) := by decide +kernel
theorem d_Y_changes_129 : decode b_Y_changes 129 = .ok (.isub, 1) := by decide +kernel
theorem d_Y_changes_130 : decode b_Y_changes 130 = .ok (.iaload, 1) := by decide +kernel
theorem d_Y_changes_131 : decode b_Y_changes 131 = .ok (.iload 8, 2) := by decide +kernel
theorem d_Y_changes_133 : decode b_Y_changes 133 = .ok (.iadd, 1) := by decide +kernel
theorem d_Y_changes_134 : decode b_Y_changes 134 = .ok (.iload 9, 2) := by decide +kernel
theorem d_Y_changes_136 : decode b_Y_changes 136 = .ok (.invokevirtual 33, 3) := by decide +kernel
theorem d_Y_changes_139 : decode b_Y_changes 139 = .ok (.istore 7, 2) := by decide +kernel
theorem d_Y_changes_141 : decode b_Y_changes 141 = .ok (.aload_n 0, 1) := by decide +kernel
theorem d_Y_changes_142 : decode b_Y_changes 142 = .ok (.getfield 16, 3) := by decide +kernel
theorem d_Y_changes_145 : decode b_Y_changes 145 = .ok (.iload 5, 2) := by decide +kernel
theorem d_Y_changes_147 : decode b_Y_changes 147 = .ok (.bipush 15, 2) := by decide +kernel
theorem d_Y_changes_149 : decode b_Y_changes 149 = .ok (.imul, 1) := by decide +kernel
theorem d_Y_changes_150 : decode b_Y_changes 150 = .ok (.iload 6, 2) := by decide +kernel
theorem d_Y_changes_152 : decode b_Y_changes 152 = .ok (.iadd, 1) := by decide +kernel
theorem d_Y_changes_153 : decode b_Y_changes 153 = .ok (.iload 7, 2) := by decide +kernel
theorem d_Y_changes_155 : decode b_Y_changes 155 = .ok (.iastore, 1) := by decide +kernel
theorem d_Y_changes_156 : decode b_Y_changes 156 = .ok (.iinc 6 1, 3) := by decide +kernel
theorem d_Y_changes_159 : decode b_Y_changes 159 = .ok (.goto (-147), 3) := by decide +kernel
theorem d_Y_changes_162 : decode b_Y_changes 162 = .ok (.iinc 5 1, 3) := by decide +kernel
theorem d_Y_changes_165 : decode b_Y_changes 165 = .ok (.goto (-162), 3) := by decide +kernel
theorem d_Y_changes_168 : decode b_Y_changes 168 = .ok (.aload_n 0, 1) := by decide +kernel
theorem d_Y_changes_169 : decode b_Y_changes 169 = .ok (.getfield 16, 3) := by decide +kernel
theorem d_Y_changes_172 : decode b_Y_changes 172 = .ok (.iload_n 2, 1) := by decide +kernel
theorem d_Y_changes_173 : decode b_Y_changes 173 = .ok (.bipush 15, 2) := by decide +kernel
theorem d_Y_changes_175 : decode b_Y_changes 175 = .ok (.imul, 1) := by decide +kernel
theorem d_Y_changes_176 : decode b_Y_changes 176 = .ok (.iload 4, 2) := by decide +kernel
theorem d_Y_changes_178 : decode b_Y_changes 178 = .ok (.iadd, 1) := by decide +kernel
theorem d_Y_changes_179 : decode b_Y_changes 179 = .ok (.iaload, 1) := by decide +kernel
theorem d_Y_changes_180 : decode b_Y_changes 180 = .ok (.ireturn, 1) := by decide +kernel
theorem d_Y_isStretch_0 : decode b_Y_isStretch 0 = .ok (.iload_n 1, 1) := by decide +kernel
theorem d_Y_isStretch_1 : decode b_Y_isStretch 1 = .ok (.ifCond .lt 17, 3) := by decide +kernel
theorem d_Y_isStretch_4 : decode b_Y_isStretch 4 = .ok (.iload_n 1, 1) := by decide +kernel
theorem d_Y_isStretch_5 : decode b_Y_isStretch 5 = .ok (.iload_n 2, 1) := by decide +kernel
theorem d_Y_isStretch_6 : decode b_Y_isStretch 6 = .ok (.if_icmp .gt 12, 3) := by decide +kernel
theorem d_Y_isStretch_9 : decode b_Y_isStretch 9 = .ok (.iload_n 2, 1) := by decide +kernel
theorem d_Y_isStretch_10 : decode b_Y_isStretch 10 = .ok (.iload_n 3, 1) := by decide +kernel
theorem d_Y_isStretch_11 : decode b_Y_isStretch 11 = .ok (.if_icmp .gt 7, 3) := by decide +kernel
theorem d_Y_isStretch_14 : decode b_Y_isStretch 14 = .ok (.iconst 1, 1) := by decide +kernel
theorem d_Y_isStretch_15 : decode b_Y_isStretch 15 = .ok (.goto 4, 3) := by decide +kernel
theorem d_Y_isStretch_18 : decode b_Y_isStretch 18 = .ok (.iconst 0, 1) := by decide +kernel
theorem d_Y_isStretch_19 : decode b_Y_isStretch 19 = .ok (.ireturn, 1) := by decide +kernel
theorem d_Y_commonB_0 : decode b_Y_commonB 0 = .ok (.aload_n 0, 1) := by decide +kernel
theorem d_Y_commonB_1 : decode b_Y_commonB 1 = .ok (.iload_n 1, 1) := by decide +kernel
theorem d_Y_commonB_2 : decode b_Y_commonB 2 = .ok (.iload_n 2, 1) := by decide +kernel
theorem d_Y_commonB_3 : decode b_Y_commonB 3 = .ok (.aload_n 0, 1) := by decide +kernel
theorem d_Y_commonB_4 : decode b_Y_commonB 4 = .ok (.getfield 30, 3) := by decide +kernel
theorem d_Y_commonB_7 : decode b_Y_commonB 7 = .ok (.invokevirtual 37, 3) := by decide +kernel
theorem d_Y_commonB_10 : decode b_Y_commonB 10 = .ok (.ifCond .eq 19, 3) := by decide +kernel
theorem d_Y_commonB_13 : decode b_Y_commonB 13 = .ok (.aload_n 0, 1) := by decide +kernel
theorem d_Y_commonB_14 : decode b_Y_commonB 14 = .ok (.iconst 0, 1) := by decide +kernel
theorem d_Y_commonB_15 : decode b_Y_commonB 15 = .ok (.aload_n 0, 1) := by decide +kernel
theorem d_Y_commonB_16 : decode b_Y_commonB 16 = .ok (.getfield 26, 3) := by decide +kernel
theorem d_Y_commonB_19 : decode b_Y_commonB 19 = .ok (.iload_n 1, 1) := by decide +kernel
theorem d_Y_commonB_20 : decode b_Y_commonB 20 = .ok (.iload_n 2, 1) := by decide +kernel
theorem d_Y_commonB_21 : decode b_Y_commonB 21 = .ok (.iload_n 1, 1) := by decide +kernel
theorem d_Y_commonB_22 : decode b_Y_commonB 22 = .ok (.isub, 1) := by decide +kernel
theorem d_Y_commonB_23 : decode b_Y_commonB 23 = .ok (.invokevirtual 41, 3) := by decide +kernel
theorem d_Y_commonB_26 : decode b_Y_commonB 26 = .ok (.goto 4, 3) := by decide +kernel
theorem d_Y_commonB_29 : decode b_Y_commonB 29 = .ok (.iconst (-1), 1) := by decide +kernel
theorem d_Y_commonB_30 : decode b_Y_commonB 30 = .ok (.ireturn, 1) := by decide +kernel
theorem d_Y_commonA_0 : decode b_Y_commonA 0 = .ok (.aload_n 0, 1) := by decide +kernel
theorem d_Y_commonA_1 : decode b_Y_commonA 1 = .ok (.iload_n 1, 1) := by decide +kernel
theorem d_Y_commonA_2 : decode b_Y_commonA 2 = .ok (.iload_n 2, 1) := by decide +kernel
theorem d_Y_commonA_3 : decode b_Y_commonA 3 = .ok (.aload_n 0, 1) := by decide +kernel
theorem d_Y_commonA_4 : decode b_Y_commonA 4 = .ok (.getfield 26, 3) := by decide +kernel
theorem d_Y_commonA_7 : decode b_Y_commonA 7 = .ok (.invokevirtual 37, 3) := by decide +kernel
theorem d_Y_commonA_10 : decode b_Y_commonA 10 = .ok (.ifCond .eq 19, 3) := by decide +kernel
theorem d_Y_commonA_13 : decode b_Y_commonA 13 = .ok (.aload_n 0, 1) := by decide +kernel
theorem d_Y_commonA_14 : decode b_Y_commonA 14 = .ok (.iload_n 1, 1) := by decide +kernel
theorem d_Y_commonA_15 : decode b_Y_commonA 15 = .ok (.iload_n 2, 1) := by decide +kernel
theorem d_Y_commonA_16 : decode b_Y_commonA 16 = .ok (.iload_n 1, 1) := by decide +kernel
theorem d_Y_commonA_17 : decode b_Y_commonA 17 = .ok (.isub, 1) := by decide +kernel
theorem d_Y_commonA_18 : decode b_Y_commonA 18 = .ok (.iconst 0, 1) := by decide +kernel
theorem d_Y_commonA_19 : decode b_Y_commonA 19 = .ok (.aload_n 0, 1) := by decide +kernel
theorem d_Y_commonA_20 : decode b_Y_commonA 20 = .ok (.getfield 30, 3) := by decide +kernel
theorem d_Y_commonA_23 : decode b_Y_commonA 23 = .ok (.invokevirtual 41, 3) := by decide +kernel
theorem d_Y_commonA_26 : decode b_Y_commonA 26 = .ok (.goto 4, 3) := by decide +kernel
theorem d_Y_commonA_29 : decode b_Y_commonA 29 = .ok (.iconst (-1), 1) := by decide +kernel
theorem d_Y_commonA_30 : decode b_Y_commonA 30 = .ok (.ireturn, 1) := by decide +kernel
theorem d_Y_commonEnd_0 : decode b_Y_commonEnd 0 = .ok (.iload_n 1, 1) := by decide +kernel
theorem d_Y_commonEnd_1 : decode b_Y_commonEnd 1 = .ok (.ifCond .lt 23, 3) := by decide +kernel
theorem d_Y_commonEnd_4 : decode b_Y_commonEnd 4 = .ok (.iload_n 1, 1) := by decide +kernel
theorem d_Y_commonEnd_5 : decode b_Y_commonEnd 5 = .ok (.aload_n 0, 1) := by decide +kernel
theorem d_Y_commonEnd_6 : decode b_Y_commonEnd 6 = .ok (.getfield 26, 3) := by decide +kernel
theorem d_Y_commonEnd_9 : decode b_Y_commonEnd 9 = .ok (.if_icmp .gt 15, 3) := by decide +kernel
theorem d_Y_commonEnd_12 : decode b_Y_commonEnd 12 = .ok (.iload_n 2, 1) := by decide +kernel
theorem d_Y_commonEnd_13 : decode b_Y_commonEnd 13 = .ok (.ifCond .lt 11, 3) := by decide +kernel
theorem d_Y_commonEnd_16 : decode b_Y_commonEnd 16 = .ok (.iload_n 2, 1) := by decide +kernel
theorem d_Y_commonEnd_17 : decode b_Y_commonEnd 17 = .ok (.aload_n 0, 1) := by decide +kernel
theorem d_Y_commonEnd_18 : decode b_Y_commonEnd 18 = .ok (.getfield 30, 3) := by decide +kernel
theorem d_Y_commonEnd_21 : decode b_Y_commonEnd 21 = .ok (.if_icmp .le 5, 3) := by decide +kernel
theorem d_Y_commonEnd_24 : decode b_Y_commonEnd 24 = .ok (.iconst (-1), 1) := by decide +kernel
theorem d_Y_commonEnd_25 : decode b_Y_commonEnd 25 = .ok (.ireturn, 1) := by decide +kernel
theorem d_Y_commonEnd_26 : decode b_Y_commonEnd 26 = .ok (.aload_n 0, 1) := by decide +kernel
theorem d_Y_commonEnd_27 : decode b_Y_commonEnd 27 = .ok (.aload_n 0, 1) := by decide +kernel
theorem d_Y_commonEnd_28 : decode b_Y_commonEnd 28 = .ok (.getfield 26, 3) := by decide +kernel
theorem d_Y_commonEnd_31 : decode b_Y_commonEnd 31 = .ok (.iload_n 1, 1) := by decide +kernel
theorem d_Y_commonEnd_32 : decode b_Y_commonEnd 32 = .ok (.isub, 1) := by decide +kernel
theorem d_Y_commonEnd_33 : decode b_Y_commonEnd 33 = .ok (.iload_n 1, 1) := by decide +kernel
theorem d_Y_commonEnd_34 : decode b_Y_commonEnd 34 = .ok (.iconst 0, 1) := by decide +kernel
theorem d_Y_commonEnd_35 : decode b_Y_commonEnd 35 = .ok (.iload_n 2, 1) := by decide +kernel
theorem d_Y_commonEnd_36 : decode b_Y_commonEnd 36 = .ok (.invokevirtual 41, 3) := by decide +kernel
theorem d_Y_commonEnd_39 : decode b_Y_commonEnd 39 = .ok (.ireturn, 1) := by decide +kernel
theorem d_Y_commonBegin_0 : decode b_Y_commonBegin 0 = .ok (.iload_n 1, 1) := by decide +kernel
theorem d_Y_commonBegin_1 : decode b_Y_commonBegin 1 = .ok (.ifCond .lt 23, 3) := by decide +kernel
theorem d_Y_commonBegin_4 : decode b_Y_commonBegin 4 = .ok (.iload_n 1, 1) := by decide +kernel
theorem d_Y_commonBegin_5 : decode b_Y_commonBegin 5 = .ok (.aload_n 0, 1) := by decide +kernel
theorem d_Y_commonBegin_6 : decode b_Y_commonBegin 6 = .ok (.getfield 26, 3) := by decide +kernel
theorem d_Y_commonBegin_9 : decode b_Y_commonBegin 9 = .ok (.if_icmp .gt 15, 3) := by decide +kernel
theorem d_Y_commonBegin_12 : decode b_Y_commonBegin 12 = .ok (.iload_n 2, 1) := by decide +kernel
theorem d_Y_commonBegin_13 : decode b_Y_commonBegin 13 = .ok (.ifCond .lt 11, 3) := by decide +kernel
theorem d_Y_commonBegin_16 : decode b_Y_commonBegin 16 = .ok (.iload_n 2, 1) := by decide +kernel
theorem d_Y_commonBegin_17 : decode b_Y_commonBegin 17 = .ok (.aload_n 0, 1) := by decide +kernel
theorem d_Y_commonBegin_18 : decode b_Y_commonBegin 18 = .ok (.getfield 30, 3) := by decide +kernel
theorem d_Y_commonBegin_21 : decode b_Y_commonBegin 21 = .ok (.if_icmp .le 5, 3) := by decide +kernel
theorem d_Y_commonBegin_24 : decode b_Y_commonBegin 24 = .ok (.iconst (-1), 1) := by decide +kernel
theorem d_Y_commonBegin_25 : decode b_Y_commonBegin 25 = .ok (.ireturn, 1) := by decide +kernel
theorem d_Y_commonBegin_26 : decode b_Y_commonBegin 26 = .ok (.aload_n 0, 1) := by decide +kernel
theorem d_Y_commonBegin_27 : decode b_Y_commonBegin 27 = .ok (.iconst 0, 1) := by decide +kernel
theorem d_Y_commonBegin_28 : decode b_Y_commonBegin 28 = .ok (.iload_n 1, 1) := by decide +kernel
theorem d_Y_commonBegin_29 : decode b_Y_commonBegin 29 = .ok (.aload_n 0, 1) := by decide +kernel
theorem d_Y_commonBegin_30 : decode b_Y_commonBegin 30 = .ok (.getfield 30, 3) := by decide +kernel
theorem d_Y_commonBegin_33 : decode b_Y_commonBegin 33 = .ok (.iload_n 2, 1) := by decide +kernel
theorem d_Y_commonBegin_34 : decode b_Y_commonBegin 34 = .ok (.isub, 1) := by decide +kernel
theorem d_Y_commonBegin_35 : decode b_Y_commonBegin 35 = .ok (.iload_n 2, 1) := by decide +kernel
theorem d_Y_commonBegin_36 : decode b_Y_commonBegin 36 = .ok (.invokevirtual 41, 3) := by decide +kernel
theorem d_Y_commonBegin_39 : decode b_Y_commonBegin 39 = .ok (.ireturn, 1) := by decide +kernel
theorem d_Y_changesB_0 : decode b_Y_changesB 0 = .ok (.aload_n 0, 1) := by decide +kernel
theorem d_Y_changesB_1 : decode b_Y_changesB 1 = .ok (.iload_n 1, 1) := by decide +kernel
theorem d_Y_changesB_2 : decode b_Y_changesB 2 = .ok (.iload_n 2, 1) := by decide +kernel
theorem d_Y_changesB_3 : decode b_Y_changesB 3 = .ok (.aload_n 0, 1) := by decide +kernel
theorem d_Y_changesB_4 : decode b_Y_changesB 4 = .ok (.getfield 30, 3) := by decide +kernel
theorem d_Y_changesB_7 : decode b_Y_changesB 7 = .ok (.invokevirtual 37, 3) := by decide +kernel
theorem d_Y_changesB_10 : decode b_Y_changesB 10 = .ok (.ifCond .eq 19, 3) := by decide +kernel
theorem d_Y_changesB_13 : decode b_Y_changesB 13 = .ok (.aload_n 0, 1) := by decide +kernel
theorem d_Y_changesB_14 : decode b_Y_changesB 14 = .ok (.iconst 0, 1) := by decide +kernel
theorem d_Y_changesB_15 : decode b_Y_changesB 15 = .ok (.aload_n 0, 1) := by decide +kernel
theorem d_Y_changesB_16 : decode b_Y_changesB 16 = .ok (.getfield 26, 3) := by decide +kernel
theorem d_Y_changesB_19 : decode b_Y_changesB 19 = .ok (.iload_n 1, 1) := by decide +kernel
theorem d_Y_changesB_20 : decode b_Y_changesB 20 = .ok (.iload_n 2, 1) := by decide +kernel
theorem d_Y_changesB_21 : decode b_Y_changesB 21 = .ok (.iload_n 1, 1) := by decide +kernel
theorem d_Y_changesB_22 : decode b_Y_changesB 22 = .ok (.isub, 1) := by decide +kernel
theorem d_Y_changesB_23 : decode b_Y_changesB 23 = .ok (.invokevirtual 45, 3) := by decide +kernel
theorem d_Y_changesB_26 : decode b_Y_changesB 26 = .ok (.goto 4, 3) := by decide +kernel
theorem d_Y_changesB_29 : decode b_Y_changesB 29 = .ok (.iconst (-1), 1) := by decide +kernel
theorem d_Y_changesB_30 : decode b_Y_changesB 30 = .ok (.ireturn, 1) := by decide +kernel
theorem d_Y_changesA_0 : decode b_Y_changesA 0 = .ok (.aload_n 0, 1) := by decide +kernel
theorem d_Y_changesA_1 : decode b_Y_changesA 1 = .ok (.iload_n 1, 1) := by decide +kernel
theorem d_Y_changesA_2 : decode b_Y_changesA 2 = .ok (.iload_n 2, 1) := by decide +kernel
theorem d_Y_changesA_3 : decode b_Y_changesA 3 = .ok (.aload_n 0, 1) := by decide +kernel
theorem d_Y_changesA_4 : decode b_Y_changesA 4 = .ok (.getfield 26, 3) := by decide +kernel
theorem d_Y_changesA_7 : decode b_Y_changesA 7 = .ok (.invokevirtual 37, 3) := by decide +kernel
theorem d_Y_changesA_10 : decode b_Y_changesA 10 = .ok (.ifCond .eq 19, 3) := by decide +kernel
theorem d_Y_changesA_13 : decode b_Y_changesA 13 = .ok (.aload_n 0, 1) := by decide +kernel
theorem d_Y_changesA_14 : decode b_Y_changesA 14 = .ok (.iload_n 1, 1) := by decide +kernel
theorem d_Y_changesA_15 : decode b_Y_changesA 15 = .ok (.iload_n 2, 1) := by decide +kernel
theorem d_Y_changesA_16 : decode b_Y_changesA 16 = .ok (.iload_n 1, 1) := by decide +kernel
theorem d_Y_changesA_17 : decode b_Y_changesA 17 = .ok (.isub, 1) := by decide +kernel
theorem d_Y_changesA_18 : decode b_Y_changesA 18 = .ok (.iconst 0, 1) := by decide +kernel
theorem d_Y_changesA_19 : decode b_Y_changesA 19 = .ok (.aload_n 0, 1) := by decide +kernel
theorem d_Y_changesA_20 : decode b_Y_changesA 20 = .ok (.getfield 30, 3) := by decide +kernel
theorem d_Y_changesA_23 : decode b_Y_changesA 23 = .ok (.invokevirtual 45, 3) := by decide +kernel
theorem d_Y_changesA_26 : decode b_Y_changesA 26 = .ok (.goto 4, 3) := by decide +kernel
theorem d_Y_changesA_29 : decode b_Y_changesA 29 = .ok (.iconst (-1), 1) := by decide +kernel
theorem d_Y_changesA_30 : decode b_Y_changesA 30 = .ok (.ireturn, 1) := by decide +kernel
theorem d_Y_nearest_0 : decode b_Y_nearest 0 = .ok (.aload_n 0, 1) := by decide +kernel
theorem d_Y_nearest_1 : decode b_Y_nearest 1 = .ok (.getfield 26, 3) := by decide +kernel
theorem d_Y_nearest_4 : decode b_Y_nearest 4 = .ok (.istore_n 1, 1) := by decide +kernel
theorem d_Y_nearest_5 : decode b_Y_nearest 5 = .ok (.iconst 0, 1) := by decide +kernel
theorem d_Y_nearest_6 : decode b_Y_nearest 6 = .ok (.istore_n 2, 1) := by decide +kernel
theorem d_Y_nearest_7 : decode b_Y_nearest 7 = .ok (.iload_n 2, 1) := by decide +kernel
theorem d_Y_nearest_8 : decode b_Y_nearest 8 = .ok (.aload_n 0, 1) := by decide +kernel
theorem d_Y_nearest_9 : decode b_Y_nearest 9 = .ok (.getfield 30, 3) := by decide +kernel
theorem d_Y_nearest_12 : decode b_Y_nearest 12 = .ok (.if_icmp .gt 48, 3) := by decide +kernel
theorem d_Y_nearest_15 : decode b_Y_nearest 15 = .ok (.iload_n 2, 1) := by decide +kernel
theorem d_Y_nearest_16 : decode b_Y_nearest 16 = .ok (.istore_n 3, 1) := by decide +kernel
theorem d_Y_nearest_17 : decode b_Y_nearest 17 = .ok (.iload_n 3, 1) := by decide +kernel
theorem d_Y_nearest_18 : decode b_Y_nearest 18 = .ok (.aload_n 0, 1) := by decide +kernel
theorem d_Y_nearest_19 : decode b_Y_nearest 19 = .ok (.getfield 30, 3) := by decide +kernel
theorem d_Y_nearest_22 : decode b_Y_nearest 22 = .ok (.if_icmp .gt 32, 3) := by decide +kernel
theorem d_Y_nearest_25 : decode b_Y_nearest 25 = .ok (.aload_n 0, 1) := by decide +kernel
theorem d_Y_nearest_26 : decode b_Y_nearest 26 = .ok (.iconst 0, 1) := by decide +kernel
theorem d_Y_nearest_27 : decode b_Y_nearest 27 = .ok (.aload_n 0, 1) := by decide +kernel
theorem d_Y_nearest_28 : decode b_Y_nearest 28 = .ok (.getfield 26, 3) := by decide +kernel
theorem d_Y_nearest_31 : decode b_Y_nearest 31 = .ok (.iload_n 2, 1) := by decide +kernel
theorem d_Y_nearest_32 : decode b_Y_nearest 32 = .ok (.iload_n 3, 1) := by decide +kernel
theorem d_Y_nearest_33 : decode b_Y_nearest 33 = .ok (.iload_n 2, 1) := by decide +kernel
theorem d_Y_nearest_34 : decode b_Y_nearest 34 = .ok (.isub, 1) := by decide +kernel
theorem d_Y_nearest_35 : decode b_Y_nearest 35 = .ok (.invokevirtual 45, 3) := by decide +kernel
theorem d_Y_nearest_38 : decode b_Y_nearest 38 = .ok (.istore 4, 2) := by decide +kernel
theorem d_Y_nearest_40 : decode b_Y_nearest 40 = .ok (.aload_n 0, 1) := by decide +kernel
theorem d_Y_nearest_41 : decode b_Y_nearest 41 = .ok (.iload_n 1, 1) := by decide +kernel
theorem d_Y_nearest_42 : decode b_Y_nearest 42 = .ok (.iload 4, 2) := by decide +kernel
theorem d_Y_nearest_44 : decode b_Y_nearest 44 = .ok (.invokevirtual 33, 3) := by decide +kernel
theorem d_Y_nearest_47 : decode b_Y_nearest 47 = .ok (.istore_n 1, 1) := by decide +kernel
theorem d_Y_nearest_48 : decode b_Y_nearest 48 = .ok (.iinc 3 1, 3) := by decide +kernel
theorem d_Y_nearest_51 : decode b_Y_nearest 51 = .ok (.goto (-34), 3) := by decide +kernel
theorem d_Y_nearest_54 : decode b_Y_nearest 54 = .ok (.iinc 2 1, 3) := by decide +kernel
theorem d_Y_nearest_57 : decode b_Y_nearest 57 = .ok (.goto (-50), 3) := by decide +kernel
theorem d_Y_nearest_60 : decode b_Y_nearest 60 = .ok (.iload_n 1, 1) := by decide +kernel
theorem d_Y_nearest_61 : decode b_Y_nearest 61 = .ok (.ireturn, 1) := by decide +kernel
theorem d_Y_nearestAt_0 : decode b_Y_nearestAt 0 = .ok (.aload_n 0, 1) := by decide +kernel
theorem d_Y_nearestAt_1 : decode b_Y_nearestAt 1 = .ok (.invokevirtual 48, 3) := by decide +kernel
theorem d_Y_nearestAt_4 : decode b_Y_nearestAt 4 = .ok (.istore_n 1, 1) := by decide +kernel
theorem d_Y_nearestAt_5 : decode b_Y_nearestAt 5 = .ok (.iconst 0, 1) := by decide +kernel
theorem d_Y_nearestAt_6 : decode b_Y_nearestAt 6 = .ok (.istore_n 2, 1) := by decide +kernel
theorem d_Y_nearestAt_7 : decode b_Y_nearestAt 7 = .ok (.iload_n 2, 1) := by decide +kernel
theorem d_Y_nearestAt_8 : decode b_Y_nearestAt 8 = .ok (.aload_n 0, 1) := by decide +kernel
theorem d_Y_nearestAt_9 : decode b_Y_nearestAt 9 = .ok (.getfield 30, 3) := by decide +kernel
theorem d_Y_nearestAt_12 : decode b_Y_nearestAt 12 = .ok (.if_icmp .gt 49, 3) := by decide +kernel
theorem d_Y_nearestAt_15 : decode b_Y_nearestAt 15 = .ok (.iload_n 2, 1) := by decide +kernel
theorem d_Y_nearestAt_16 : decode b_Y_nearestAt 16 = .ok (.istore_n 3, 1) := by decide +kernel
theorem d_Y_nearestAt_17 : decode b_Y_nearestAt 17 = .ok (.iload_n 3, 1) := by decide +kernel
theorem d_Y_nearestAt_18 : decode b_Y_nearestAt 18 = .ok (.aload_n 0, 1) := by decide +kernel
theorem d_Y_nearestAt_19 : decode b_Y_nearestAt 19 = .ok (.getfield 30, 3) := by decide +kernel
theorem d_Y_nearestAt_22 : decode b_Y_nearestAt 22 = .ok (.if_icmp .gt 33, 3) := by decide +kernel
theorem d_Y_nearestAt_25 : decode b_Y_nearestAt 25 = .ok (.aload_n 0, 1) := by decide +kernel
theorem d_Y_nearestAt_26 : decode b_Y_nearestAt 26 = .ok (.iconst 0, 1) := by decide +kernel
theorem d_Y_nearestAt_27 : decode b_Y_nearestAt 27 = .ok (.aload_n 0, 1) := by decide +kernel
theorem d_Y_nearestAt_28 : decode b_Y_nearestAt 28 = .ok (.getfield 26, 3) := by decide +kernel
theorem d_Y_nearestAt_31 : decode b_Y_nearestAt 31 = .ok (.iload_n 2, 1) := by decide +kernel
theorem d_Y_nearestAt_32 : decode b_Y_nearestAt 32 = .ok (.iload_n 3, 1) := by decide +kernel
theorem d_Y_nearestAt_33 : decode b_Y_nearestAt 33 = .ok (.iload_n 2, 1) := by decide +kernel
theorem d_Y_nearestAt_34 : decode b_Y_nearestAt 34 = .ok (.isub, 1) := by decide +kernel
theorem d_Y_nearestAt_35 : decode b_Y_nearestAt 35 = .ok (.invokevirtual 45, 3) := by decide +kernel
theorem d_Y_nearestAt_38 : decode b_Y_nearestAt 38 = .ok (.iload_n 1, 1) := by decide +kernel
theorem d_Y_nearestAt_39 : decode b_Y_nearestAt 39 = .ok (.if_icmp .ne 10, 3) := by decide +kernel
theorem d_Y_nearestAt_42 : decode b_Y_nearestAt 42 = .ok (.bipush 16, 2) := by decide +kernel
theorem d_Y_nearestAt_44 : decode b_Y_nearestAt 44 = .ok (.iload_n 2, 1) := by decide +kernel
theorem d_Y_nearestAt_45 : decode b_Y_nearestAt 45 = .ok (.imul, 1) := by decide +kernel
theorem d_Y_nearestAt_46 : decode b_Y_nearestAt 46 = .ok (.iload_n 3, 1) := by decide +kernel
theorem d_Y_nearestAt_47 : decode b_Y_nearestAt 47 = .ok (.iadd, 1) := by decide +kernel
theorem d_Y_nearestAt_48 : decode b_Y_nearestAt 48 = .ok (.ireturn, 1) := by decide +kernel
theorem d_Y_nearestAt_49 : decode b_Y_nearestAt 49 = .ok (.iinc 3 1, 3) := by decide +kernel
theorem d_Y_nearestAt_52 : decode b_Y_nearestAt 52 = .ok (.goto (-35), 3) := by decide +kernel
theorem d_Y_nearestAt_55 : decode b_Y_nearestAt 55 = .ok (.iinc 2 1, 3) := by decide +kernel
theorem d_Y_nearestAt_58 : decode b_Y_nearestAt 58 = .ok (.goto (-51), 3) := by decide +kernel
theorem d_Y_nearestAt_61 : decode b_Y_nearestAt 61 = .ok (.iconst 0, 1) := by decide +kernel
theorem d_Y_nearestAt_62 : decode b_Y_nearestAt 62 = .ok (.ireturn, 1) := by decide +kernel
theorem d_Y_shortest_0 : decode b_Y_shortest 0 = .ok (.iload_n 1, 1) := by decide +kernel
theorem d_Y_shortest_1 : decode b_Y_shortest 1 = .ok (.iconst 1, 1) := by decide +kernel
theorem d_Y_shortest_2 : decode b_Y_shortest 2 = .ok (.if_icmp .ge 5, 3) := by decide +kernel
theorem d_Y_shortest_5 : decode b_Y_shortest 5 = .ok (.iconst 0, 1) := by decide +kernel
theorem d_Y_shortest_6 : decode b_Y_shortest 6 = .ok (.ireturn, 1) := by decide +kernel
theorem d_Y_shortest_7 : decode b_Y_shortest 7 = .ok (.iconst 1, 1) := by decide +kernel
theorem d_Y_shortest_8 : decode b_Y_shortest 8 = .ok (.istore_n 2, 1) := by decide +kernel
theorem d_Y_shortest_9 : decode b_Y_shortest 9 = .ok (.iload_n 2, 1) := by decide +kernel
theorem d_Y_shortest_10 : decode b_Y_shortest 10 = .ok (.aload_n 0, 1) := by decide +kernel
theorem d_Y_shortest_11 : decode b_Y_shortest 11 = .ok (.getfield 30, 3) := by decide +kernel
theorem d_Y_shortest_14 : decode b_Y_shortest 14 = .ok (.if_icmp .gt 20, 3) := by decide +kernel
theorem d_Y_shortest_17 : decode b_Y_shortest 17 = .ok (.aload_n 0, 1) := by decide +kernel
theorem d_Y_shortest_18 : decode b_Y_shortest 18 = .ok (.iload_n 2, 1) := by decide +kernel
theorem d_Y_shortest_19 : decode b_Y_shortest 19 = .ok (.invokevirtual 52, 3) := by decide +kernel
theorem d_Y_shortest_22 : decode b_Y_shortest 22 = .ok (.iload_n 1, 1) := by decide +kernel
theorem d_Y_shortest_23 : decode b_Y_shortest 23 = .ok (.if_icmp .lt 5, 3) := by decide +kernel
theorem d_Y_shortest_26 : decode b_Y_shortest 26 = .ok (.iload_n 2, 1) := by decide +kernel
theorem d_Y_shortest_27 : decode b_Y_shortest 27 = .ok (.ireturn, 1) := by decide +kernel
theorem d_Y_shortest_28 : decode b_Y_shortest 28 = .ok (.iinc 2 1, 3) := by decide +kernel
theorem d_Y_shortest_31 : decode b_Y_shortest 31 = .ok (.goto (-22), 3) := by decide +kernel
theorem d_Y_shortest_34 : decode b_Y_shortest 34 = .ok (.bipush (-4), 2) := by decide +kernel
theorem d_Y_shortest_36 : decode b_Y_shortest 36 = .ok (.ireturn, 1) := by decide +kernel
theorem d_Y_widest_0 : decode b_Y_widest 0 = .ok (.iload_n 1, 1) := by decide +kernel
theorem d_Y_widest_1 : decode b_Y_widest 1 = .ok (.ifCond .lt 11, 3) := by decide +kernel
theorem d_Y_widest_4 : decode b_Y_widest 4 = .ok (.iload_n 1, 1) := by decide +kernel
theorem d_Y_widest_5 : decode b_Y_widest 5 = .ok (.aload_n 0, 1) := by decide +kernel
theorem d_Y_widest_6 : decode b_Y_widest 6 = .ok (.getfield 30, 3) := by decide +kernel
theorem d_Y_widest_9 : decode b_Y_widest 9 = .ok (.if_icmp .le 6, 3) := by decide +kernel
theorem d_Y_widest_12 : decode b_Y_widest 12 = .ok (.bipush (-4), 2) := by decide +kernel
theorem d_Y_widest_14 : decode b_Y_widest 14 = .ok (.ireturn, 1) := by decide +kernel
theorem d_Y_widest_15 : decode b_Y_widest 15 = .ok (.iconst 0, 1) := by decide +kernel
theorem d_Y_widest_16 : decode b_Y_widest 16 = .ok (.istore_n 2, 1) := by decide +kernel
theorem d_Y_widest_17 : decode b_Y_widest 17 = .ok (.iconst 0, 1) := by decide +kernel
theorem d_Y_widest_18 : decode b_Y_widest 18 = .ok (.istore_n 3, 1) := by decide +kernel
theorem d_Y_widest_19 : decode b_Y_widest 19 = .ok (.iload_n 3, 1) := by decide +kernel
theorem d_Y_widest_20 : decode b_Y_widest 20 = .ok (.iload_n 1, 1) := by decide +kernel
theorem d_Y_widest_21 : decode b_Y_widest 21 = .ok (.iadd, 1) := by decide +kernel
theorem d_Y_widest_22 : decode b_Y_widest 22 = .ok (.aload_n 0, 1) := by decide +kernel
theorem d_Y_widest_23 : decode b_Y_widest 23 = .ok (.getfield 30, 3) := by decide +kernel
theorem d_Y_widest_26 : decode b_Y_widest 26 = .ok (.if_icmp .gt 35, 3) := by decide +kernel
theorem d_Y_widest_29 : decode b_Y_widest 29 = .ok (.aload_n 0, 1) := by decide +kernel
theorem d_Y_widest_30 : decode b_Y_widest 30 = .ok (.iconst 0, 1) := by decide +kernel
theorem d_Y_widest_31 : decode b_Y_widest 31 = .ok (.aload_n 0, 1) := by decide +kernel
theorem d_Y_widest_32 : decode b_Y_widest 32 = .ok (.getfield 26, 3) := by decide +kernel
theorem d_Y_widest_35 : decode b_Y_widest 35 = .ok (.iload_n 3, 1) := by decide +kernel
theorem d_Y_widest_36 : decode b_Y_widest 36 = .ok (.iload_n 1, 1) := by decide +kernel
theorem d_Y_widest_37 : decode b_Y_widest 37 = .ok (.invokevirtual 41, 3) := by decide +kernel
theorem d_Y_widest_40 : decode b_Y_widest 40 = .ok (.istore 4, 2) := by decide +kernel
theorem d_Y_widest_42 : decode b_Y_widest 42 = .ok (.iload 4, 2) := by decide +kernel
theorem d_Y_widest_44 : decode b_Y_widest 44 = .ok (.iload_n 2, 1) := by decide +kernel
theorem d_Y_widest_45 : decode b_Y_widest 45 = .ok (.if_icmp .le 8, 3) := by decide +kernel
theorem d_Y_widest_48 : decode b_Y_widest 48 = .ok (.iload 4, 2) := by decide +kernel
theorem d_Y_widest_50 : decode b_Y_widest 50 = .ok (.goto 4, 3) := by decide +kernel
theorem d_Y_widest_53 : decode b_Y_widest 53 = .ok (.iload_n 2, 1) := by decide +kernel
theorem d_Y_widest_54 : decode b_Y_widest 54 = .ok (.istore_n 2, 1) := by decide +kernel
theorem d_Y_widest_55 : decode b_Y_widest 55 = .ok (.iinc 3 1, 3) := by decide +kernel
theorem d_Y_widest_58 : decode b_Y_widest 58 = .ok (.goto (-39), 3) := by decide +kernel
theorem d_Y_widest_61 : decode b_Y_widest 61 = .ok (.iload_n 2, 1) := by decide +kernel
theorem d_Y_widest_62 : decode b_Y_widest 62 = .ok (.ireturn, 1) := by decide +kernel
theorem d_Y_rotated_0 : decode b_Y_rotated 0 = .ok (.iconst 0, 1) := by decide +kernel
theorem d_Y_rotated_1 : decode b_Y_rotated 1 = .ok (.istore_n 1, 1) := by decide +kernel
theorem d_Y_rotated_2 : decode b_Y_rotated 2 = .ok (.iconst 0, 1) := by decide +kernel
theorem d_Y_rotated_3 : decode b_Y_rotated 3 = .ok (.istore_n 2, 1) := by decide +kernel
theorem d_Y_rotated_4 : decode b_Y_rotated 4 = .ok (.iload_n 2, 1) := by decide +kernel
theorem d_Y_rotated_5 : decode b_Y_rotated 5 = .ok (.aload_n 0, 1) := by decide +kernel
theorem d_Y_rotated_6 : decode b_Y_rotated 6 = .ok (.getfield 30, 3) := by decide +kernel
theorem d_Y_rotated_9 : decode b_Y_rotated 9 = .ok (.if_icmp .ge 35, 3) := by decide +kernel
theorem d_Y_rotated_12 : decode b_Y_rotated 12 = .ok (.aload_n 0, 1) := by decide +kernel
theorem d_Y_rotated_13 : decode b_Y_rotated 13 = .ok (.iconst 0, 1) := by decide +kernel
theorem d_Y_rotated_14 : decode b_Y_rotated 14 = .ok (.aload_n 0, 1) := by decide +kernel
theorem d_Y_rotated_15 : decode b_Y_rotated 15 = .ok (.getfield 26, 3) := by decide +kernel
theorem d_Y_rotated_18 : decode b_Y_rotated 18 = .ok (.iload_n 2, 1) := by decide +kernel
theorem d_Y_rotated_19 : decode b_Y_rotated 19 = .ok (.aload_n 0, 1) := by decide +kernel
theorem d_Y_rotated_20 : decode b_Y_rotated 20 = .ok (.getfield 30, 3) := by decide +kernel
theorem d_Y_rotated_23 : decode b_Y_rotated 23 = .ok (.invokevirtual 41, 3) := by decide +kernel
theorem d_Y_rotated_26 : decode b_Y_rotated 26 = .ok (.istore_n 3, 1) := by decide +kernel
theorem d_Y_rotated_27 : decode b_Y_rotated 27 = .ok (.iload_n 3, 1) := by decide +kernel
theorem d_Y_rotated_28 : decode b_Y_rotated 28 = .ok (.iload_n 1, 1) := by decide +kernel
theorem d_Y_rotated_29 : decode b_Y_rotated 29 = .ok (.if_icmp .le 7, 3) := by decide +kernel
theorem d_Y_rotated_32 : decode b_Y_rotated 32 = .ok (.iload_n 3, 1) := by decide +kernel
theorem d_Y_rotated_33 : decode b_Y_rotated 33 = .ok (.goto 4, 3) := by decide +kernel
theorem d_Y_rotated_36 : decode b_Y_rotated 36 = .ok (.iload_n 1, 1) := by decide +kernel
theorem d_Y_rotated_37 : decode b_Y_rotated 37 = .ok (.istore_n 1, 1) := by decide +kernel
theorem d_Y_rotated_38 : decode b_Y_rotated 38 = .ok (.iinc 2 1, 3) := by decide +kernel
theorem d_Y_rotated_41 : decode b_Y_rotated 41 = .ok (.goto (-37), 3) := by decide +kernel
theorem d_Y_rotated_44 : decode b_Y_rotated 44 = .ok (.iload_n 1, 1) := by decide +kernel
theorem d_Y_rotated_45 : decode b_Y_rotated 45 = .ok (.ireturn, 1) := by decide +kernel
theorem d_Y_isTight_0 : decode b_Y_isTight 0 = .ok (.iload_n 1, 1) := by decide +kernel
theorem d_Y_isTight_1 : decode b_Y_isTight 1 = .ok (.istore_n 3, 1) := by decide +kernel
theorem d_Y_isTight_2 : decode b_Y_isTight 2 = .ok (.iload_n 3, 1) := by decide +kernel
theorem d_Y_isTight_3 : decode b_Y_isTight 3 = .ok (.iload_n 2, 1) := by decide +kernel
theorem d_Y_isTight_4 : decode b_Y_isTight 4 = .ok (.if_icmp .gt 75, 3) := by decide +kernel
theorem d_Y_isTight_7 : decode b_Y_isTight 7 = .ok (.iload_n 3, 1) := by decide +kernel
theorem d_Y_isTight_8 : decode b_Y_isTight 8 = .ok (.istore 4, 2) := by decide +kernel
theorem d_Y_isTight_10 : decode b_Y_isTight 10 = .ok (.iload 4, 2) := by decide +kernel
theorem d_Y_isTight_12 : decode b_Y_isTight 12 = .ok (.iload_n 2, 1) := by decide +kernel
theorem d_Y_isTight_13 : decode b_Y_isTight 13 = .ok (.if_icmp .gt 60, 3) := by decide +kernel
theorem d_Y_isTight_16 : decode b_Y_isTight 16 = .ok (.iload_n 3, 1) := by decide +kernel
theorem d_Y_isTight_17 : decode b_Y_isTight 17 = .ok (.iload_n 1, 1) := by decide +kernel
theorem d_Y_isTight_18 : decode b_Y_isTight 18 = .ok (.if_icmp .ne 9, 3) := by decide +kernel
theorem d_Y_isTight_21 : decode b_Y_isTight 21 = .ok (.iload 4, 2) := by decide +kernel
theorem d_Y_isTight_23 : decode b_Y_isTight 23 = .ok (.iload_n 2, 1) := by decide +kernel
theorem d_Y_isTight_24 : decode b_Y_isTight 24 = .ok (.if_icmp .eq 7, 3) := by decide +kernel
theorem d_Y_isTight_27 : decode b_Y_isTight 27 = .ok (.iconst 1, 1) := by decide +kernel
theorem d_Y_isTight_28 : decode b_Y_isTight 28 = .ok (.goto 4, 3) := by decide +kernel
theorem d_Y_isTight_31 : decode b_Y_isTight 31 = .ok (.iconst 0, 1) := by decide +kernel
theorem d_Y_isTight_32 : decode b_Y_isTight 32 = .ok (.istore 5, 2) := by decide +kernel
theorem d_Y_isTight_34 : decode b_Y_isTight 34 = .ok (.iload 5, 2) := by decide +kernel
theorem d_Y_isTight_36 : decode b_Y_isTight 36 = .ok (.ifCond .eq 31, 3) := by decide +kernel
theorem d_Y_isTight_39 : decode b_Y_isTight 39 = .ok (.aload_n 0, 1) := by decide +kernel
theorem d_Y_isTight_40 : decode b_Y_isTight 40 = .ok (.getfield 19, 3) := by decide +kernel
theorem d_Y_isTight_43 : decode b_Y_isTight 43 = .ok (.iload_n 3, 1) := by decide +kernel
theorem d_Y_isTight_44 : decode b_Y_isTight 44 = .ok (.bipush 15, 2) := by decide +kernel
theorem d_Y_isTight_46 : decode b_Y_isTight 46 = .ok (.imul, 1) := by decide +kernel
theorem d_Y_isTight_47 : decode b_Y_isTight 47 = .ok (.iload 4, 2) := by decide +kernel
theorem d_Y_isTight_49 : decode b_Y_isTight 49 = .ok (.iadd, 1) := by decide +kernel
theorem d_Y_isTight_50 : decode b_Y_isTight 50 = .ok (.iaload, 1) := by decide +kernel
theorem d_Y_isTight_51 : decode b_Y_isTight 51 = .ok (.aload_n 0, 1) := by decide +kernel
theorem d_Y_isTight_52 : decode b_Y_isTight 52 = .ok (.getfield 19, 3) := by decide +kernel
theorem d_Y_isTight_55 : decode b_Y_isTight 55 = .ok (.iload_n 1, 1) := by decide +kernel
theorem d_Y_isTight_56 : decode b_Y_isTight 56 = .ok (.bipush 15, 2) := by decide +kernel
theorem d_Y_isTight_58 : decode b_Y_isTight 58 = .ok (.imul, 1) := by decide +kernel
theorem d_Y_isTight_59 : decode b_Y_isTight 59 = .ok (.iload_n 2, 1) := by decide +kernel
theorem d_Y_isTight_60 : decode b_Y_isTight 60 = .ok (.iadd, 1) := by decide +kernel
theorem d_Y_isTight_61 : decode b_Y_isTight 61 = .ok (.iaload, 1) := by decide +kernel
theorem d_Y_isTight_62 : decode b_Y_isTight 62 = .ok (.if_icmp .lt 5, 3) := by decide +kernel
theorem d_Y_isTight_65 : decode b_Y_isTight 65 = .ok (.iconst 0, 1) := by decide +kernel
theorem d_Y_isTight_66 : decode b_Y_isTight 66 = .ok (.ireturn, 1) := by decide +kernel
theorem d_Y_isTight_67 : decode b_Y_isTight 67 = .ok (.iinc 4 1, 3) := by decide +kernel
theorem d_Y_isTight_70 : decode b_Y_isTight 70 = .ok (.goto (-60), 3) := by decide +kernel
theorem d_Y_isTight_73 : decode b_Y_isTight 73 = .ok (.iinc 3 1, 3) := by decide +kernel
theorem d_Y_isTight_76 : decode b_Y_isTight 76 = .ok (.goto (-74), 3) := by decide +kernel
theorem d_Y_isTight_79 : decode b_Y_isTight 79 = .ok (.iconst 1, 1) := by decide +kernel
theorem d_Y_isTight_80 : decode b_Y_isTight 80 = .ok (.ireturn, 1) := by decide +kernel
theorem d_Y_tight_0 : decode b_Y_tight 0 = .ok (.iconst 0, 1) := by decide +kernel
theorem d_Y_tight_1 : decode b_Y_tight 1 = .ok (.istore_n 1, 1) := by decide +kernel
theorem d_Y_tight_2 : decode b_Y_tight 2 = .ok (.iload_n 1, 1) := by decide +kernel
theorem d_Y_tight_3 : decode b_Y_tight 3 = .ok (.aload_n 0, 1) := by decide +kernel
theorem d_Y_tight_4 : decode b_Y_tight 4 = .ok (.getfield 30, 3) := by decide +kernel
theorem d_Y_tight_7 : decode b_Y_tight 7 = .ok (.if_icmp .gt 49, 3) := by decide +kernel
theorem d_Y_tight_10 : decode b_Y_tight 10 = .ok (.iload_n 1, 1) := by decide +kernel
theorem d_Y_tight_11 : decode b_Y_tight 11 = .ok (.istore_n 2, 1) := by decide +kernel
theorem d_Y_tight_12 : decode b_Y_tight 12 = .ok (.iload_n 2, 1) := by decide +kernel
theorem d_Y_tight_13 : decode b_Y_tight 13 = .ok (.aload_n 0, 1) := by decide +kernel
theorem d_Y_tight_14 : decode b_Y_tight 14 = .ok (.getfield 30, 3) := by decide +kernel
theorem d_Y_tight_17 : decode b_Y_tight 17 = .ok (.if_icmp .gt 33, 3) := by decide +kernel
theorem d_Y_tight_20 : decode b_Y_tight 20 = .ok (.aload_n 0, 1) := by decide +kernel
theorem d_Y_tight_21 : decode b_Y_tight 21 = .ok (.getfield 19, 3) := by decide +kernel
theorem d_Y_tight_24 : decode b_Y_tight 24 = .ok (.iload_n 1, 1) := by decide +kernel
theorem d_Y_tight_25 : decode b_Y_tight 25 = .ok (.bipush 15, 2) := by decide +kernel
theorem d_Y_tight_27 : decode b_Y_tight 27 = .ok (.imul, 1) := by decide +kernel
theorem d_Y_tight_28 : decode b_Y_tight 28 = .ok (.iload_n 2, 1) := by decide +kernel
theorem d_Y_tight_29 : decode b_Y_tight 29 = .ok (.iadd, 1) := by decide +kernel
theorem d_Y_tight_30 : decode b_Y_tight 30 = .ok (.aload_n 0, 1) := by decide +kernel
theorem d_Y_tight_31 : decode b_Y_tight 31 = .ok (.iconst 0, 1) := by decide +kernel
theorem d_Y_tight_32 : decode b_Y_tight 32 = .ok (.aload_n 0, 1) := by decide +kernel
theorem d_Y_tight_33 : decode b_Y_tight 33 = .ok (.getfield 26, 3) := by decide +kernel
theorem d_Y_tight_36 : decode b_Y_tight 36 = .ok (.iload_n 1, 1) := by decide +kernel
theorem d_Y_tight_37 : decode b_Y_tight 37 = .ok (.iload_n 2, 1) := by decide +kernel
theorem d_Y_tight_38 : decode b_Y_tight 38 = .ok (.iload_n 1, 1) := by decide +kernel
theorem d_Y_tight_39 : decode b_Y_tight 39 = .ok (.isub, 1) := by decide +kernel
theorem d_Y_tight_40 : decode b_Y_tight 40 = .ok (.invokevirtual 41, 3) := by decide +kernel
theorem d_Y_tight_43 : decode b_Y_tight 43 = .ok (.iastore, 1) := by decide +kernel
theorem d_Y_tight_44 : decode b_Y_tight 44 = .ok (.iinc 2 1, 3) := by decide +kernel
theorem d_Y_tight_47 : decode b_Y_tight 47 = .ok (.goto (-35), 3) := by decide +kernel
theorem d_Y_tight_50 : decode b_Y_tight 50 = .ok (.iinc 1 1, 3) := by decide +kernel
theorem d_Y_tight_53 : decode b_Y_tight 53 = .ok (.goto (-51), 3) := by decide +kernel
theorem d_Y_tight_56 : decode b_Y_tight 56 = .ok (.iconst 0, 1) := by decide +kernel
theorem d_Y_tight_57 : decode b_Y_tight 57 = .ok (.istore_n 1, 1) := by decide +kernel
theorem d_Y_tight_58 : decode b_Y_tight 58 = .ok (.iconst 0, 1) := by decide +kernel
theorem d_Y_tight_59 : decode b_Y_tight 59 = .ok (.istore_n 2, 1) := by decide +kernel
theorem d_Y_tight_60 : decode b_Y_tight 60 = .ok (.iload_n 2, 1) := by decide +kernel
theorem d_Y_tight_61 : decode b_Y_tight 61 = .ok (.aload_n 0, 1) := by decide +kernel
theorem d_Y_tight_62 : decode b_Y_tight 62 = .ok (.getfield 30, 3) := by decide +kernel
theorem d_Y_tight_65 : decode b_Y_tight 65 = .ok (.if_icmp .gt 37, 3) := by decide +kernel
theorem d_Y_tight_68 : decode b_Y_tight 68 = .ok (.iload_n 2, 1) := by decide +kernel
theorem d_Y_tight_69 : decode b_Y_tight 69 = .ok (.istore_n 3, 1) := by decide +kernel
theorem d_Y_tight_70 : decode b_Y_tight 70 = .ok (.iload_n 3, 1) := by decide +kernel
theorem d_Y_tight_71 : decode b_Y_tight 71 = .ok (.aload_n 0, 1) := by decide +kernel
theorem d_Y_tight_72 : decode b_Y_tight 72 = .ok (.getfield 30, 3) := by decide +kernel
theorem d_Y_tight_75 : decode b_Y_tight 75 = .ok (.if_icmp .gt 21, 3) := by decide +kernel
theorem d_Y_tight_78 : decode b_Y_tight 78 = .ok (.aload_n 0, 1) := by decide +kernel
theorem d_Y_tight_79 : decode b_Y_tight 79 = .ok (.iload_n 2, 1) := by decide +kernel
theorem d_Y_tight_80 : decode b_Y_tight 80 = .ok (.iload_n 3, 1) := by decide +kernel
theorem d_Y_tight_81 : decode b_Y_tight 81 = .ok (.invokevirtual 56, 3) := by decide +kernel
theorem d_Y_tight_84 : decode b_Y_tight 84 = .ok (.ifCond .eq 6, 3) := by decide +kernel
theorem d_Y_tight_87 : decode b_Y_tight 87 = .ok (.iinc 1 1, 3) := by decide +kernel
theorem d_Y_tight_90 : decode b_Y_tight 90 = .ok (.iinc 3 1, 3) := by decide +kernel
theorem d_Y_tight_93 : decode b_Y_tight 93 = .ok (.goto (-23), 3) := by decide +kernel
theorem d_Y_tight_96 : decode b_Y_tight 96 = .ok (.iinc 2 1, 3) := by decide +kernel
theorem d_Y_tight_99 : decode b_Y_tight 99 = .ok (.goto (-39), 3) := by decide +kernel
theorem d_Y_tight_102 : decode b_Y_tight 102 = .ok (.iload_n 1, 1) := by decide +kernel
theorem d_Y_tight_103 : decode b_Y_tight 103 = .ok (.ireturn, 1) := by decide +kernel
end
section
/-! decode rows of law; printed by gen_names.py -/
theorem d_law_0 : decode code 0 = .ok (.new 7, 3) := by decide +kernel
theorem d_law_3 : decode code 3 = .ok (.dup, 1) := by decide +kernel
theorem d_law_4 : decode code 4 = .ok (.invokespecial 9, 3) := by decide +kernel
theorem d_law_7 : decode code 7 = .ok (.astore_n 1, 1) := by decide +kernel
theorem d_law_8 : decode code 8 = .ok (.new 10, 3) := by decide +kernel
theorem d_law_11 : decode code 11 = .ok (.dup, 1) := by decide +kernel
theorem d_law_12 : decode code 12 = .ok (.invokespecial 12, 3) := by decide +kernel
theorem d_law_15 : decode code 15 = .ok (.astore_n 2, 1) := by decide +kernel
theorem d_law_16 : decode code 16 = .ok (.iconst 0, 1) := by decide +kernel
theorem d_law_17 : decode code 17 = .ok (.istore_n 3, 1) := by decide +kernel
theorem d_law_18 : decode code 18 = .ok (.iload_n 3, 1) := by decide +kernel
theorem d_law_19 : decode code 19 = .ok (.aload_n 0, 1) := by decide +kernel
theorem d_law_20 : decode code 20 = .ok (.arraylength, 1) := by decide +kernel
theorem d_law_21 : decode code 21 = .ok (.iconst 3, 1) := by decide +kernel
theorem d_law_22 : decode code 22 = .ok (.isub, 1) := by decide +kernel
theorem d_law_23 : decode code 23 = .ok (.if_icmp .gt 515, 3) := by decide +kernel
theorem d_law_26 : decode code 26 = .ok (.aload_n 0, 1) := by decide +kernel
theorem d_law_27 : decode code 27 = .ok (.iload_n 3, 1) := by decide +kernel
theorem d_law_28 : decode code 28 = .ok (.iaload, 1) := by decide +kernel
theorem d_law_29 : decode code 29 = .ok (.bipush 31, 2) := by decide +kernel
theorem d_law_31 : decode code 31 = .ok (.iand, 1) := by decide +kernel
theorem d_law_32 : decode code 32 = .ok (.tableswitch 500 0 17 #[88, 111, 134, 167, 180, 191, 204, 237, 270, 303, 336, 369, 402, 415, 428, 451, 474, 487], 88) := by decide +kernel
theorem d_law_120 : decode code 120 = .ok (.aload_n 1, 1) := by decide +kernel
theorem d_law_121 : decode code 121 = .ok (.aload_n 0, 1) := by decide +kernel
theorem d_law_122 : decode code 122 = .ok (.iload_n 3, 1) := by decide +kernel
theorem d_law_123 : decode code 123 = .ok (.iconst 1, 1) := by decide +kernel
theorem d_law_124 : decode code 124 = .ok (.iadd, 1) := by decide +kernel
theorem d_law_125 : decode code 125 = .ok (.iaload, 1) := by decide +kernel
theorem d_law_126 : decode code 126 = .ok (.invokevirtual 13, 3) := by decide +kernel
theorem d_law_129 : decode code 129 = .ok (.aload_n 2, 1) := by decide +kernel
theorem d_law_130 : decode code 130 = .ok (.aload_n 0, 1) := by decide +kernel
theorem d_law_131 : decode code 131 = .ok (.iload_n 3, 1) := by decide +kernel
theorem d_law_132 : decode code 132 = .ok (.iconst 1, 1) := by decide +kernel
theorem d_law_133 : decode code 133 = .ok (.iadd, 1) := by decide +kernel
theorem d_law_134 : decode code 134 = .ok (.iaload, 1) := by decide +kernel
theorem d_law_135 : decode code 135 = .ok (.invokevirtual 17, 3) := by decide +kernel
theorem d_law_138 : decode code 138 = .ok (.if_icmp .eq 394, 3) := by decide +kernel
theorem d_law_141 : decode code 141 = .ok (.iconst 0, 1) := by decide +kernel
theorem d_law_142 : decode code 142 = .ok (.ireturn, 1) := by decide +kernel
theorem d_law_143 : decode code 143 = .ok (.aload_n 1, 1) := by decide +kernel
theorem d_law_144 : decode code 144 = .ok (.aload_n 0, 1) := by decide +kernel
theorem d_law_145 : decode code 145 = .ok (.iload_n 3, 1) := by decide +kernel
theorem d_law_146 : decode code 146 = .ok (.iconst 1, 1) := by decide +kernel
theorem d_law_147 : decode code 147 = .ok (.iadd, 1) := by decide +kernel
theorem d_law_148 : decode code 148 = .ok (.iaload, 1) := by decide +kernel
theorem d_law_149 : decode code 149 = .ok (.invokevirtual 18, 3) := by decide +kernel
theorem d_law_152 : decode code 152 = .ok (.aload_n 2, 1) := by decide +kernel
theorem d_law_153 : decode code 153 = .ok (.aload_n 0, 1) := by decide +kernel
theorem d_law_154 : decode code 154 = .ok (.iload_n 3, 1) := by decide +kernel
theorem d_law_155 : decode code 155 = .ok (.iconst 1, 1) := by decide +kernel
theorem d_law_156 : decode code 156 = .ok (.iadd, 1) := by decide +kernel
theorem d_law_157 : decode code 157 = .ok (.iaload, 1) := by decide +kernel
theorem d_law_158 : decode code 158 = .ok (.invokevirtual 21, 3) := by decide +kernel
theorem d_law_161 : decode code 161 = .ok (.if_icmp .eq 371, 3) := by decide +kernel
theorem d_law_164 : decode code 164 = .ok (.iconst 0, 1) := by decide +kernel
theorem d_law_165 : decode code 165 = .ok (.ireturn, 1) := by decide +kernel
theorem d_law_166 : decode code 166 = .ok (.aload_n 1, 1) := by decide +kernel
theorem d_law_167 : decode code 167 = .ok (.aload_n 0, 1) := by decide +kernel
theorem d_law_168 : decode code 168 = .ok (.iload_n 3, 1) := by decide +kernel
theorem d_law_169 : decode code 169 = .ok (.iconst 1, 1) := by decide +kernel
theorem d_law_170 : decode code 170 = .ok (.iadd, 1) := by decide +kernel
theorem d_law_171 : decode code 171 = .ok (.iaload, 1) := by decide +kernel
theorem d_law_172 : decode code 172 = .ok (.aload_n 0, 1) := by decide +kernel
theorem d_law_173 : decode code 173 = .ok (.iload_n 3, 1) := by decide +kernel
theorem d_law_174 : decode code 174 = .ok (.iconst 2, 1) := by decide +kernel
theorem d_law_175 : decode code 175 = .ok (.iadd, 1) := by decide +kernel
theorem d_law_176 : decode code 176 = .ok (.iaload, 1) := by decide +kernel
theorem d_law_177 : decode code 177 = .ok (.invokevirtual 22, 3) := by decide +kernel
theorem d_law_180 : decode code 180 = .ok (.aload_n 2, 1) := by decide +kernel
theorem d_law_181 : decode code 181 = .ok (.aload_n 0, 1) := by decide +kernel
theorem d_law_182 : decode code 182 = .ok (.iload_n 3, 1) := by decide +kernel
theorem d_law_183 : decode code 183 = .ok (.iconst 1, 1) := by decide +kernel
theorem d_law_184 : decode code 184 = .ok (.iadd, 1) := by decide +kernel
theorem d_law_185 : decode code 185 = .ok (.iaload, 1) := by decide +kernel
theorem d_law_186 : decode code 186 = .ok (.aload_n 0, 1) := by decide +kernel
theorem d_law_187 : decode code 187 = .ok (.iload_n 3, 1) := by decide +kernel
theorem d_law_188 : decode code 188 = .ok (.iconst 2, 1) := by decide +kernel
theorem d_law_189 : decode code 189 = .ok (.iadd, 1) := by decide +kernel
theorem d_law_190 : decode code 190 = .ok (.iaload, 1) := by decide +kernel
theorem d_law_191 : decode code 191 = .ok (.invokevirtual 26, 3) := by decide +kernel
theorem d_law_194 : decode code 194 = .ok (.if_icmp .eq 338, 3) := by decide +kernel
theorem d_law_197 : decode code 197 = .ok (.iconst 0, 1) := by decide +kernel
theorem d_law_198 : decode code 198 = .ok (.ireturn, 1) := by decide +kernel
theorem d_law_199 : decode code 199 = .ok (.aload_n 1, 1) := by decide +kernel
theorem d_law_200 : decode code 200 = .ok (.invokevirtual 27, 3) := by decide +kernel
theorem d_law_203 : decode code 203 = .ok (.aload_n 2, 1) := by decide +kernel
theorem d_law_204 : decode code 204 = .ok (.invokevirtual 31, 3) := by decide +kernel
theorem d_law_207 : decode code 207 = .ok (.if_icmp .eq 325, 3) := by decide +kernel
theorem d_law_210 : decode code 210 = .ok (.iconst 0, 1) := by decide +kernel
theorem d_law_211 : decode code 211 = .ok (.ireturn, 1) := by decide +kernel
theorem d_law_212 : decode code 212 = .ok (.aload_n 1, 1) := by decide +kernel
theorem d_law_213 : decode code 213 = .ok (.invokevirtual 32, 3) := by decide +kernel
theorem d_law_216 : decode code 216 = .ok (.aload_n 2, 1) := by decide +kernel
theorem d_law_217 : decode code 217 = .ok (.invokevirtual 35, 3) := by decide +kernel
theorem d_law_220 : decode code 220 = .ok (.goto 312, 3) := by decide +kernel
theorem d_law_223 : decode code 223 = .ok (.aload_n 1, 1) := by decide +kernel
theorem d_law_224 : decode code 224 = .ok (.invokevirtual 36, 3) := by decide +kernel
theorem d_law_227 : decode code 227 = .ok (.aload_n 2, 1) := by decide +kernel
theorem d_law_228 : decode code 228 = .ok (.invokevirtual 39, 3) := by decide +kernel
theorem d_law_231 : decode code 231 = .ok (.if_icmp .eq 301, 3) := by decide +kernel
theorem d_law_234 : decode code 234 = .ok (.iconst 0, 1) := by decide +kernel
theorem d_law_235 : decode code 235 = .ok (.ireturn, 1) := by decide +kernel
theorem d_law_236 : decode code 236 = .ok (.aload_n 1, 1) := by decide +kernel
theorem d_law_237 : decode code 237 = .ok (.aload_n 0, 1) := by decide +kernel
theorem d_law_238 : decode code 238 = .ok (.iload_n 3, 1) := by decide +kernel
theorem d_law_239 : decode code 239 = .ok (.iconst 1, 1) := by decide +kernel
theorem d_law_240 : decode code 240 = .ok (.iadd, 1) := by decide +kernel
theorem d_law_241 : decode code 241 = .ok (.iaload, 1) := by decide +kernel
theorem d_law_242 : decode code 242 = .ok (.aload_n 0, 1) := by decide +kernel
theorem d_law_243 : decode code 243 = .ok (.iload_n 3, 1) := by decide +kernel
theorem d_law_244 : decode code 244 = .ok (.iconst 2, 1) := by decide +kernel
theorem d_law_245 : decode code 245 = .ok (.iadd, 1) := by decide +kernel
theorem d_law_246 : decode code 246 = .ok (.iaload, 1) := by decide +kernel
theorem d_law_247 : decode code 247 = .ok (.invokevirtual 40, 3) := by decide +kernel
theorem d_law_250 : decode code 250 = .ok (.aload_n 2, 1) := by decide +kernel
theorem d_law_251 : decode code 251 = .ok (.aload_n 0, 1) := by decide +kernel
theorem d_law_252 : decode code 252 = .ok (.iload_n 3, 1) := by decide +kernel
theorem d_law_253 : decode code 253 = .ok (.iconst 1, 1) := by decide +kernel
theorem d_law_254 : decode code 254 = .ok (.iadd, 1) := by decide +kernel
theorem d_law_255 : decode code 255 = .ok (.iaload, 1) := by decide +kernel
theorem d_law_256 : decode code 256 = .ok (.aload_n 0, 1) := by decide +kernel
theorem d_law_257 : decode code 257 = .ok (.iload_n 3, 1) := by decide +kernel
theorem d_law_258 : decode code 258 = .ok (.iconst 2, 1) := by decide +kernel
theorem d_law_259 : decode code 259 = .ok (.iadd, 1) := by decide +kernel
theorem d_law_260 : decode code 260 = .ok (.iaload, 1) := by decide +kernel
theorem d_law_261 : decode code 261 = .ok (.invokevirtual 43, 3) := by decide +kernel
theorem d_law_264 : decode code 264 = .ok (.if_icmp .eq 268, 3) := by decide +kernel
theorem d_law_267 : decode code 267 = .ok (.iconst 0, 1) := by decide +kernel
theorem d_law_268 : decode code 268 = .ok (.ireturn, 1) := by decide +kernel
theorem d_law_269 : decode code 269 = .ok (.aload_n 1, 1) := by decide +kernel
theorem d_law_270 : decode code 270 = .ok (.aload_n 0, 1) := by decide +kernel
theorem d_law_271 : decode code 271 = .ok (.iload_n 3, 1) := by decide +kernel
theorem d_law_272 : decode code 272 = .ok (.iconst 1, 1) := by decide +kernel
theorem d_law_273 : decode code 273 = .ok (.iadd, 1) := by decide +kernel
theorem d_law_274 : decode code 274 = .ok (.iaload, 1) := by decide +kernel
theorem d_law_275 : decode code 275 = .ok (.aload_n 0, 1) := by decide +kernel
theorem d_law_276 : decode code 276 = .ok (.iload_n 3, 1) := by decide +kernel
theorem d_law_277 : decode code 277 = .ok (.iconst 2, 1) := by decide +kernel
theorem d_law_278 : decode code 278 = .ok (.iadd, 1) := by decide +kernel
theorem d_law_279 : decode code 279 = .ok (.iaload, 1) := by decide +kernel
theorem d_law_280 : decode code 280 = .ok (.invokevirtual 44, 3) := by decide +kernel
theorem d_law_283 : decode code 283 = .ok (.aload_n 2, 1) := by decide +kernel
theorem d_law_284 : decode code 284 = .ok (.aload_n 0, 1) := by decide +kernel
theorem d_law_285 : decode code 285 = .ok (.iload_n 3, 1) := by decide +kernel
theorem d_law_286 : decode code 286 = .ok (.iconst 1, 1) := by decide +kernel
theorem d_law_287 : decode code 287 = .ok (.iadd, 1) := by decide +kernel
theorem d_law_288 : decode code 288 = .ok (.iaload, 1) := by decide +kernel
theorem d_law_289 : decode code 289 = .ok (.aload_n 0, 1) := by decide +kernel
theorem d_law_290 : decode code 290 = .ok (.iload_n 3, 1) := by decide +kernel
theorem d_law_291 : decode code 291 = .ok (.iconst 2, 1) := by decide +kernel
theorem d_law_292 : decode code 292 = .ok (.iadd, 1) := by decide +kernel
theorem d_law_293 : decode code 293 = .ok (.iaload, 1) := by decide +kernel
theorem d_law_294 : decode code 294 = .ok (.invokevirtual 47, 3) := by decide +kernel
theorem d_law_297 : decode code 297 = .ok (.if_icmp .eq 235, 3) := by decide +kernel
theorem d_law_300 : decode code 300 = .ok (.iconst 0, 1) := by decide +kernel
theorem d_law_301 : decode code 301 = .ok (.ireturn, 1) := by decide +kernel
theorem d_law_302 : decode code 302 = .ok (.aload_n 1, 1) := by decide +kernel
theorem d_law_303 : decode code 303 = .ok (.aload_n 0, 1) := by decide +kernel
theorem d_law_304 : decode code 304 = .ok (.iload_n 3, 1) := by decide +kernel
theorem d_law_305 : decode code 305 = .ok (.iconst 1, 1) := by decide +kernel
theorem d_law_306 : decode code 306 = .ok (.iadd, 1) := by decide +kernel
theorem d_law_307 : decode code 307 = .ok (.iaload, 1) := by decide +kernel
theorem d_law_308 : decode code 308 = .ok (.aload_n 0, 1) := by decide +kernel
theorem d_law_309 : decode code 309 = .ok (.iload_n 3, 1) := by decide +kernel
theorem d_law_310 : decode code 310 = .ok (.iconst 2, 1) := by decide +kernel
theorem d_law_311 : decode code 311 = .ok (.iadd, 1) := by decide +kernel
theorem d_law_312 : decode code 312 = .ok (.iaload, 1) := by decide +kernel
theorem d_law_313 : decode code 313 = .ok (.invokevirtual 48, 3) := by decide +kernel
theorem d_law_316 : decode code 316 = .ok (.aload_n 2, 1) := by decide +kernel
theorem d_law_317 : decode code 317 = .ok (.aload_n 0, 1) := by decide +kernel
theorem d_law_318 : decode code 318 = .ok (.iload_n 3, 1) := by decide +kernel
theorem d_law_319 : decode code 319 = .ok (.iconst 1, 1) := by decide +kernel
theorem d_law_320 : decode code 320 = .ok (.iadd, 1) := by decide +kernel
theorem d_law_321 : decode code 321 = .ok (.iaload, 1) := by decide +kernel
theorem d_law_322 : decode code 322 = .ok (.aload_n 0, 1) := by decide +kernel
theorem d_law_323 : decode code 323 = .ok (.iload_n 3, 1) := by decide +kernel
theorem d_law_324 : decode code 324 = .ok (.iconst 2, 1) := by decide +kernel
theorem d_law_325 : decode code 325 = .ok (.iadd, 1) := by decide +kernel
theorem d_law_326 : decode code 326 = .ok (.iaload, 1) := by decide +kernel
theorem d_law_327 : decode code 327 = .ok (.invokevirtual 51, 3) := by decide +kernel
theorem d_law_330 : decode code 330 = .ok (.if_icmp .eq 202, 3) := by decide +kernel
theorem d_law_333 : decode code 333 = .ok (.iconst 0, 1) := by decide +kernel
theorem d_law_334 : decode code 334 = .ok (.ireturn, 1) := by decide +kernel
theorem d_law_335 : decode code 335 = .ok (.aload_n 1, 1) := by decide +kernel
theorem d_law_336 : decode code 336 = .ok (.aload_n 0, 1) := by decide +kernel
theorem d_law_337 : decode code 337 = .ok (.iload_n 3, 1) := by decide +kernel
theorem d_law_338 : decode code 338 = .ok (.iconst 1, 1) := by decide +kernel
theorem d_law_339 : decode code 339 = .ok (.iadd, 1) := by decide +kernel
theorem d_law_340 : decode code 340 = .ok (.iaload, 1) := by decide +kernel
theorem d_law_341 : decode code 341 = .ok (.aload_n 0, 1) := by decide +kernel
theorem d_law_342 : decode code 342 = .ok (.iload_n 3, 1) := by decide +kernel
theorem d_law_343 : decode code 343 = .ok (.iconst 2, 1) := by decide +kernel
theorem d_law_344 : decode code 344 = .ok (.iadd, 1) := by decide +kernel
theorem d_law_345 : decode code 345 = .ok (.iaload, 1) := by decide +kernel
theorem d_law_346 : decode code 346 = .ok (.invokevirtual 52, 3) := by decide +kernel
theorem d_law_349 : decode code 349 = .ok (.aload_n 2, 1) := by decide +kernel
theorem d_law_350 : decode code 350 = .ok (.aload_n 0, 1) := by decide +kernel
theorem d_law_351 : decode code 351 = .ok (.iload_n 3, 1) := by decide +kernel
theorem d_law_352 : decode code 352 = .ok (.iconst 1, 1) := by decide +kernel
theorem d_law_353 : decode code 353 = .ok (.iadd, 1) := by decide +kernel
theorem d_law_354 : decode code 354 = .ok (.iaload, 1) := by decide +kernel
theorem d_law_355 : decode code 355 = .ok (.aload_n 0, 1) := by decide +kernel
theorem d_law_356 : decode code 356 = .ok (.iload_n 3, 1) := by decide +kernel
theorem d_law_357 : decode code 357 = .ok (.iconst 2, 1) := by decide +kernel
theorem d_law_358 : decode code 358 = .ok (.iadd, 1) := by decide +kernel
theorem d_law_359 : decode code 359 = .ok (.iaload, 1) := by decide +kernel
theorem d_law_360 : decode code 360 = .ok (.invokevirtual 55, 3) := by decide +kernel
theorem d_law_363 : decode code 363 = .ok (.if_icmp .eq 169, 3) := by decide +kernel
theorem d_law_366 : decode code 366 = .ok (.iconst 0, 1) := by decide +kernel
theorem d_law_367 : decode code 367 = .ok (.ireturn, 1) := by decide +kernel
theorem d_law_368 : decode code 368 = .ok (.aload_n 1, 1) := by decide +kernel
theorem d_law_369 : decode code 369 = .ok (.aload_n 0, 1) := by decide +kernel
theorem d_law_370 : decode code 370 = .ok (.iload_n 3, 1) := by decide +kernel
theorem d_law_371 : decode code 371 = .ok (.iconst 1, 1) := by decide +kernel
theorem d_law_372 : decode code 372 = .ok (.iadd, 1) := by decide +kernel
theorem d_law_373 : decode code 373 = .ok (.iaload, 1) := by decide +kernel
theorem d_law_374 : decode code 374 = .ok (.aload_n 0, 1) := by decide +kernel
theorem d_law_375 : decode code 375 = .ok (.iload_n 3, 1) := by decide +kernel
theorem d_law_376 : decode code 376 = .ok (.iconst 2, 1) := by decide +kernel
theorem d_law_377 : decode code 377 = .ok (.iadd, 1) := by decide +kernel
theorem d_law_378 : decode code 378 = .ok (.iaload, 1) := by decide +kernel
theorem d_law_379 : decode code 379 = .ok (.invokevirtual 56, 3) := by decide +kernel
theorem d_law_382 : decode code 382 = .ok (.aload_n 2, 1) := by decide +kernel
theorem d_law_383 : decode code 383 = .ok (.aload_n 0, 1) := by decide +kernel
theorem d_law_384 : decode code 384 = .ok (.iload_n 3, 1) := by decide +kernel
theorem d_law_385 : decode code 385 = .ok (.iconst 1, 1) := by decide +kernel
theorem d_law_386 : decode code 386 = .ok (.iadd, 1) := by decide +kernel
theorem d_law_387 : decode code 387 = .ok (.iaload, 1) := by decide +kernel
theorem d_law_388 : decode code 388 = .ok (.aload_n 0, 1) := by decide +kernel
theorem d_law_389 : decode code 389 = .ok (.iload_n 3, 1) := by decide +kernel
theorem d_law_390 : decode code 390 = .ok (.iconst 2, 1) := by decide +kernel
theorem d_law_391 : decode code 391 = .ok (.iadd, 1) := by decide +kernel
theorem d_law_392 : decode code 392 = .ok (.iaload, 1) := by decide +kernel
theorem d_law_393 : decode code 393 = .ok (.invokevirtual 59, 3) := by decide +kernel
theorem d_law_396 : decode code 396 = .ok (.if_icmp .eq 136, 3) := by decide +kernel
theorem d_law_399 : decode code 399 = .ok (.iconst 0, 1) := by decide +kernel
theorem d_law_400 : decode code 400 = .ok (.ireturn, 1) := by decide +kernel
theorem d_law_401 : decode code 401 = .ok (.aload_n 1, 1) := by decide +kernel
theorem d_law_402 : decode code 402 = .ok (.aload_n 0, 1) := by decide +kernel
theorem d_law_403 : decode code 403 = .ok (.iload_n 3, 1) := by decide +kernel
theorem d_law_404 : decode code 404 = .ok (.iconst 1, 1) := by decide +kernel
theorem d_law_405 : decode code 405 = .ok (.iadd, 1) := by decide +kernel
theorem d_law_406 : decode code 406 = .ok (.iaload, 1) := by decide +kernel
theorem d_law_407 : decode code 407 = .ok (.aload_n 0, 1) := by decide +kernel
theorem d_law_408 : decode code 408 = .ok (.iload_n 3, 1) := by decide +kernel
theorem d_law_409 : decode code 409 = .ok (.iconst 2, 1) := by decide +kernel
theorem d_law_410 : decode code 410 = .ok (.iadd, 1) := by decide +kernel
theorem d_law_411 : decode code 411 = .ok (.iaload, 1) := by decide +kernel
theorem d_law_412 : decode code 412 = .ok (.invokevirtual 60, 3) := by decide +kernel
theorem d_law_415 : decode code 415 = .ok (.aload_n 2, 1) := by decide +kernel
theorem d_law_416 : decode code 416 = .ok (.aload_n 0, 1) := by decide +kernel
theorem d_law_417 : decode code 417 = .ok (.iload_n 3, 1) := by decide +kernel
theorem d_law_418 : decode code 418 = .ok (.iconst 1, 1) := by decide +kernel
theorem d_law_419 : decode code 419 = .ok (.iadd, 1) := by decide +kernel
theorem d_law_420 : decode code 420 = .ok (.iaload, 1) := by decide +kernel
theorem d_law_421 : decode code 421 = .ok (.aload_n 0, 1) := by decide +kernel
theorem d_law_422 : decode code 422 = .ok (.iload_n 3, 1) := by decide +kernel
theorem d_law_423 : decode code 423 = .ok (.iconst 2, 1) := by decide +kernel
theorem d_law_424 : decode code 424 = .ok (.iadd, 1) := by decide +kernel
theorem d_law_425 : decode code 425 = .ok (.iaload, 1) := by decide +kernel
theorem d_law_426 : decode code 426 = .ok (.invokevirtual 63, 3) := by decide +kernel
theorem d_law_429 : decode code 429 = .ok (.if_icmp .eq 103, 3) := by decide +kernel
theorem d_law_432 : decode code 432 = .ok (.iconst 0, 1) := by decide +kernel
theorem d_law_433 : decode code 433 = .ok (.ireturn, 1) := by decide +kernel
theorem d_law_434 : decode code 434 = .ok (.aload_n 1, 1) := by decide +kernel
theorem d_law_435 : decode code 435 = .ok (.invokevirtual 64, 3) := by decide +kernel
theorem d_law_438 : decode code 438 = .ok (.aload_n 2, 1) := by decide +kernel
theorem d_law_439 : decode code 439 = .ok (.invokevirtual 67, 3) := by decide +kernel
theorem d_law_442 : decode code 442 = .ok (.if_icmp .eq 90, 3) := by decide +kernel
theorem d_law_445 : decode code 445 = .ok (.iconst 0, 1) := by decide +kernel
theorem d_law_446 : decode code 446 = .ok (.ireturn, 1) := by decide +kernel
theorem d_law_447 : decode code 447 = .ok (.aload_n 1, 1) := by decide +kernel
theorem d_law_448 : decode code 448 = .ok (.invokevirtual 68, 3) := by decide +kernel
theorem d_law_451 : decode code 451 = .ok (.aload_n 2, 1) := by decide +kernel
theorem d_law_452 : decode code 452 = .ok (.invokevirtual 71, 3) := by decide +kernel
theorem d_law_455 : decode code 455 = .ok (.if_icmp .eq 77, 3) := by decide +kernel
theorem d_law_458 : decode code 458 = .ok (.iconst 0, 1) := by decide +kernel
theorem d_law_459 : decode code 459 = .ok (.ireturn, 1) := by decide +kernel
theorem d_law_460 : decode code 460 = .ok (.aload_n 1, 1) := by decide +kernel
theorem d_law_461 : decode code 461 = .ok (.aload_n 0, 1) := by decide +kernel
theorem d_law_462 : decode code 462 = .ok (.iload_n 3, 1) := by decide +kernel
theorem d_law_463 : decode code 463 = .ok (.iconst 1, 1) := by decide +kernel
theorem d_law_464 : decode code 464 = .ok (.iadd, 1) := by decide +kernel
theorem d_law_465 : decode code 465 = .ok (.iaload, 1) := by decide +kernel
theorem d_law_466 : decode code 466 = .ok (.invokevirtual 72, 3) := by decide +kernel
theorem d_law_469 : decode code 469 = .ok (.aload_n 2, 1) := by decide +kernel
theorem d_law_470 : decode code 470 = .ok (.aload_n 0, 1) := by decide +kernel
theorem d_law_471 : decode code 471 = .ok (.iload_n 3, 1) := by decide +kernel
theorem d_law_472 : decode code 472 = .ok (.iconst 1, 1) := by decide +kernel
theorem d_law_473 : decode code 473 = .ok (.iadd, 1) := by decide +kernel
theorem d_law_474 : decode code 474 = .ok (.iaload, 1) := by decide +kernel
theorem d_law_475 : decode code 475 = .ok (.invokevirtual 75, 3) := by decide +kernel
theorem d_law_478 : decode code 478 = .ok (.if_icmp .eq 54, 3) := by decide +kernel
theorem d_law_481 : decode code 481 = .ok (.iconst 0, 1) := by decide +kernel
theorem d_law_482 : decode code 482 = .ok (.ireturn, 1) := by decide +kernel
theorem d_law_483 : decode code 483 = .ok (.aload_n 1, 1) := by decide +kernel
theorem d_law_484 : decode code 484 = .ok (.aload_n 0, 1) := by decide +kernel
theorem d_law_485 : decode code 485 = .ok (.iload_n 3, 1) := by decide +kernel
theorem d_law_486 : decode code 486 = .ok (.iconst 1, 1) := by decide +kernel
theorem d_law_487 : decode code 487 = .ok (.iadd, 1) := by decide +kernel
theorem d_law_488 : decode code 488 = .ok (.iaload, 1) := by decide +kernel
theorem d_law_489 : decode code 489 = .ok (.invokevirtual 76, 3) := by decide +kernel
theorem d_law_492 : decode code 492 = .ok (.aload_n 2, 1) := by decide +kernel
theorem d_law_493 : decode code 493 = .ok (.aload_n 0, 1) := by decide +kernel
theorem d_law_494 : decode code 494 = .ok (.iload_n 3, 1) := by decide +kernel
theorem d_law_495 : decode code 495 = .ok (.iconst 1, 1) := by decide +kernel
theorem d_law_496 : decode code 496 = .ok (.iadd, 1) := by decide +kernel
theorem d_law_497 : decode code 497 = .ok (.iaload, 1) := by decide +kernel
theorem d_law_498 : decode code 498 = .ok (.invokevirtual 79, 3) := by decide +kernel
theorem d_law_501 : decode code 501 = .ok (.if_icmp .eq 31, 3) := by decide +kernel
theorem d_law_504 : decode code 504 = .ok (.iconst 0, 1) := by decide +kernel
theorem d_law_505 : decode code 505 = .ok (.ireturn, 1) := by decide +kernel
theorem d_law_506 : decode code 506 = .ok (.aload_n 1, 1) := by decide +kernel
theorem d_law_507 : decode code 507 = .ok (.invokevirtual 80, 3) := by decide +kernel
theorem d_law_510 : decode code 510 = .ok (.aload_n 2, 1) := by decide +kernel
theorem d_law_511 : decode code 511 = .ok (.invokevirtual 83, 3) := by decide +kernel
theorem d_law_514 : decode code 514 = .ok (.if_icmp .eq 18, 3) := by decide +kernel
theorem d_law_517 : decode code 517 = .ok (.iconst 0, 1) := by decide +kernel
theorem d_law_518 : decode code 518 = .ok (.ireturn, 1) := by decide +kernel
theorem d_law_519 : decode code 519 = .ok (.aload_n 1, 1) := by decide +kernel
theorem d_law_520 : decode code 520 = .ok (.invokevirtual 84, 3) := by decide +kernel
theorem d_law_523 : decode code 523 = .ok (.aload_n 2, 1) := by decide +kernel
theorem d_law_524 : decode code 524 = .ok (.invokevirtual 87, 3) := by decide +kernel
theorem d_law_527 : decode code 527 = .ok (.if_icmp .eq 5, 3) := by decide +kernel
theorem d_law_530 : decode code 530 = .ok (.iconst 0, 1) := by decide +kernel
theorem d_law_531 : decode code 531 = .ok (.ireturn, 1) := by decide +kernel
theorem d_law_532 : decode code 532 = .ok (.iinc 3 3, 3) := by decide +kernel
theorem d_law_535 : decode code 535 = .ok (.goto (-517), 3) := by decide +kernel
theorem d_law_538 : decode code 538 = .ok (.iconst 1, 1) := by decide +kernel
theorem d_law_539 : decode code 539 = .ok (.ireturn, 1) := by decide +kernel
end
section
/-! THE PLAIN LAW: strands, the table of common subwords, the table of changes. No program in sight. -/
/-- Int32 by its number -/
theorem sw_lt {a b : Int32} : a < b ↔ a.toInt < b.toInt := Int32.lt_iff_toInt_lt
theorem sw_le {a b : Int32} : a ≤ b ↔ a.toInt ≤ b.toInt := Int32.le_iff_toInt_le
theorem sw_nlt {a b : Int32} : ¬ a < b ↔ b ≤ a := by rw [sw_lt, sw_le]; omega
theorem sw_nle {a b : Int32} : ¬ a ≤ b ↔ b < a := by rw [sw_lt, sw_le]; omega
theorem sw_sub {a b : Int32} (h1 : -2147483648 ≤ a.toInt - b.toInt) (h2 : a.toInt - b.toInt < 2147483648) : (a - b).toInt = a.toInt - b.toInt := by
  rw [Int32.toInt_sub, Int.bmod_def]
  omega
theorem sw_add {a b : Int32} (h1 : -2147483648 ≤ a.toInt + b.toInt) (h2 : a.toInt + b.toInt < 2147483648) : (a + b).toInt = a.toInt + b.toInt := by
  rw [Int32.toInt_add, Int.bmod_def]
  omega
theorem sw_m1 : (-1 : Int32).toInt = -1 := by decide +kernel
theorem sw_0 : (0 : Int32).toInt = 0 := by decide +kernel
theorem sw_eqI {a b : Int32} (h : a.toInt = b.toInt) : a = b := Int32.toInt_inj.mp h
/-- the name of row x at the left -/
theorem sw_row0 {x : Nat} (h : x < 1000) : (-1 - nI x).toInt = -1 - (x : Int) := by
  rw [sw_sub] <;> rw [sw_m1, nI_toInt (by omega)] <;> omega
theorem sw_neg {x : Nat} (h : x < 1000) : (0 - nI x).toInt = - (x : Int) := by
  rw [sw_sub] <;> rw [sw_0, nI_toInt (by omega)] <;> omega
/-- how many k below n have p -/
def sw_cnt (p : Nat → Bool) : Nat → Nat
  | 0 => 0
  | n + 1 => sw_cnt p n + (if p n = true then 1 else 0)
theorem sw_cnt_le (p : Nat → Bool) (n : Nat) : sw_cnt p n ≤ n := by
  induction n with
  | zero => exact Nat.le_refl 0
  | succ n ih => unfold sw_cnt; split <;> omega
theorem sw_cnt_congr {p q : Nat → Bool} {n : Nat} (h : ∀ k, k < n → p k = q k) : sw_cnt p n = sw_cnt q n := by
  induction n with
  | zero => rfl
  | succ n ih => unfold sw_cnt; rw [ih (fun k hk => h k (by omega)), h n (by omega)]
theorem sw_cnt_none {p : Nat → Bool} {n : Nat} (h : ∀ k, k < n → p k = false) : sw_cnt p n = 0 := by
  induction n with
  | zero => rfl
  | succ n ih => unfold sw_cnt; rw [ih (fun k hk => h k (by omega)), h n (by omega)]; rfl
theorem sw_cnt_all {p : Nat → Bool} {n : Nat} (h : ∀ k, k < n → p k = true) : sw_cnt p n = n := by
  induction n with
  | zero => rfl
  | succ n ih => unfold sw_cnt; rw [ih (fun k hk => h k (by omega)), h n (by omega)]; rfl
theorem sw_cnt_not (p : Nat → Bool) (n : Nat) : sw_cnt p n + sw_cnt (fun k => !p k) n = n := by
  induction n with
  | zero => rfl
  | succ n ih =>
    unfold sw_cnt
    cases p n <;> simp <;> omega
theorem sw_cnt_add (p : Nat → Bool) (a b : Nat) : sw_cnt p (a + b) = sw_cnt p a + sw_cnt (fun k => p (a + k)) b := by
  induction b with
  | zero => rfl
  | succ b ih =>
    show sw_cnt p (a + b) + (if p (a + b) = true then 1 else 0) = sw_cnt p a + (sw_cnt (fun k => p (a + k)) b + (if p (a + b) = true then 1 else 0))
    omega
/-- the strand that goes on along row (letter x, first strand a) over column j, where V are the strands from above -/
def sw_h (x : Int32) (lb V : Nat → Int32) (a : Int32) : Nat → Int32
  | 0 => a
  | j + 1 => if x = lb j ∨ V j < sw_h x lb V a j then V j else sw_h x lb V a j
/-- the strand that comes into row i at column j from above -/
def sw_v (la lb : Nat → Int32) : Nat → Nat → Int32
  | 0 => fun j => nI j
  | i + 1 => fun j => if la i = lb j ∨ sw_v la lb i j < sw_h (la i) lb (sw_v la lb i) (-1 - nI i) j then sw_h (la i) lb (sw_v la lb i) (-1 - nI i) j else sw_v la lb i j
/-- the strand that comes into column j at row i from the left -/
def sw_r (la lb : Nat → Int32) (i j : Nat) : Int32 := sw_h (la i) lb (sw_v la lb i) (-1 - nI i) j
theorem sw_v_0 (la lb : Nat → Int32) (j : Nat) : sw_v la lb 0 j = nI j := rfl
theorem sw_v_s (la lb : Nat → Int32) (i j : Nat) : sw_v la lb (i + 1) j = if la i = lb j ∨ sw_v la lb i j < sw_r la lb i j then sw_r la lb i j else sw_v la lb i j := rfl
theorem sw_r_0 (la lb : Nat → Int32) (i : Nat) : sw_r la lb i 0 = -1 - nI i := rfl
theorem sw_r_s (la lb : Nat → Int32) (i j : Nat) : sw_r la lb i (j + 1) = if la i = lb j ∨ sw_v la lb i j < sw_r la lb i j then sw_v la lb i j else sw_r la lb i j := rfl
/-- what holds of every strand's name at its begin holds everywhere -/
theorem sw_all {la lb : Nat → Int32} {P : Int32 → Prop} {X C : Nat} (hc : ∀ c, c < C → P (nI c)) (hx : ∀ x, x < X → P (-1 - nI x)) :
    ∀ x, x ≤ X → (∀ c, c < C → P (sw_v la lb x c)) ∧ (x < X → ∀ c, c ≤ C → P (sw_r la lb x c)) := by
  have row : ∀ x, x < X → (∀ c, c < C → P (sw_v la lb x c)) → ∀ c, c ≤ C → P (sw_r la lb x c) := by
    intro x h hv c
    induction c with
    | zero => intro _; rw [sw_r_0]; exact hx x h
    | succ c ih =>
      intro hcc
      rw [sw_r_s]
      split
      · exact hv c (by omega)
      · exact ih (by omega)
  intro x
  induction x with
  | zero => intro _; exact ⟨fun c h => hc c h, fun h => row 0 h (fun c h => hc c h)⟩
  | succ x ih =>
    intro h
    obtain ⟨h1, h2⟩ := ih (by omega)
    have h3 : ∀ c, c < C → P (sw_v la lb (x + 1) c) := by
      intro c hcc
      rw [sw_v_s]
      split
      · exact h2 (by omega) c (by omega)
      · exact h1 c hcc
    exact ⟨h3, fun h => row (x + 1) h h3⟩
/-- only the letters that were met count -/
theorem sw_congr {la lb la' lb' : Nat → Int32} {X C : Nat} (ha : ∀ x, x < X → la x = la' x) (hb : ∀ c, c < C → lb c = lb' c) :
    ∀ x, x ≤ X → (∀ c, c < C → sw_v la lb x c = sw_v la' lb' x c) ∧ (x < X → ∀ c, c ≤ C → sw_r la lb x c = sw_r la' lb' x c) := by
  have row : ∀ x, x < X → (∀ c, c < C → sw_v la lb x c = sw_v la' lb' x c) → ∀ c, c ≤ C → sw_r la lb x c = sw_r la' lb' x c := by
    intro x h hv c
    induction c with
    | zero => intro _; rfl
    | succ c ih =>
      intro hcc
      rw [sw_r_s, sw_r_s, ha x h, hb c (by omega), hv c (by omega), ih (by omega)]
  intro x
  induction x with
  | zero => intro _; exact ⟨fun c h => rfl, fun h => row 0 h (fun c h => rfl)⟩
  | succ x ih =>
    intro h
    obtain ⟨h1, h2⟩ := ih (by omega)
    have h3 : ∀ c, c < C → sw_v la lb (x + 1) c = sw_v la' lb' (x + 1) c := by
      intro c hcc
      rw [sw_v_s, sw_v_s, ha x (by omega), hb c hcc, h1 c hcc, h2 (by omega) c (by omega)]
    exact ⟨h3, fun h => row (x + 1) h h3⟩
/-- a row of the table of common subwords -/
def sw_drow (x : Int32) (lb : Nat → Int32) (prev : Nat → Nat) : Nat → Nat
  | 0 => 0
  | y + 1 => if x = lb y then prev y + 1 else max (prev (y + 1)) (sw_drow x lb prev y)
/-- the table of common subwords: x letters of la from s on, y letters of lb from t on -/
def sw_d (la lb : Nat → Int32) (s t : Nat) : Nat → Nat → Nat
  | 0 => fun _ => 0
  | x + 1 => sw_drow (la (s + x)) (fun y => lb (t + y)) (sw_d la lb s t x)
theorem sw_d_0 (la lb : Nat → Int32) (s t y : Nat) : sw_d la lb s t 0 y = 0 := rfl
theorem sw_d_x0 (la lb : Nat → Int32) (s t x : Nat) : sw_d la lb s t x 0 = 0 := by cases x <;> rfl
theorem sw_d_s (la lb : Nat → Int32) (s t x y : Nat) : sw_d la lb s t (x + 1) (y + 1) = if la (s + x) = lb (t + y) then sw_d la lb s t x y + 1 else max (sw_d la lb s t x (y + 1)) (sw_d la lb s t (x + 1) y) := rfl
theorem sw_d_congr {la lb la' lb' : Nat → Int32} {s t X Y : Nat} (ha : ∀ x, x < X → la (s + x) = la' (s + x)) (hb : ∀ y, y < Y → lb (t + y) = lb' (t + y)) :
    ∀ x, x ≤ X → ∀ y, y ≤ Y → sw_d la lb s t x y = sw_d la' lb' s t x y := by
  intro x
  induction x with
  | zero => intro _ y _; rfl
  | succ x ih =>
    intro hx y
    induction y with
    | zero => intro _; rfl
    | succ y ihy =>
      intro hy
      rw [sw_d_s, sw_d_s, ha x (by omega), hb y (by omega), ih (by omega) y (by omega), ih (by omega) (y + 1) hy, ihy (by omega)]
theorem sw_d_le (la lb : Nat → Int32) (s t : Nat) : ∀ x y, sw_d la lb s t x y ≤ x := by
  intro x
  induction x with
  | zero => intro y; exact Nat.le_refl 0
  | succ x ih =>
    intro y
    induction y with
    | zero => exact Nat.zero_le _
    | succ y ihy =>
      rw [sw_d_s]
      have h1 := ih y
      have h2 := ih (y + 1)
      split <;> omega
/-- one letter more of lb at its begin, or at its end: no less -/
theorem sw_d_first (la lb : Nat → Int32) (s t : Nat) : ∀ x y, sw_d la lb s (t + 1) x y ≤ sw_d la lb s t x (y + 1) := by
  intro x
  induction x with
  | zero => intro y; exact Nat.le_refl 0
  | succ x ih =>
    intro y
    induction y with
    | zero => rw [sw_d_x0]; exact Nat.zero_le _
    | succ y ihy =>
      rw [sw_d_s, sw_d_s, show t + 1 + y = t + (y + 1) by omega]
      have h1 := ih y
      have h2 := ih (y + 1)
      split <;> omega
/-- one letter more of lb at its end: no less; one letter more of la: at most one more -/
theorem sw_d_step (la lb : Nat → Int32) (s t : Nat) : ∀ x, (∀ y, sw_d la lb s t x y ≤ sw_d la lb s t x (y + 1)) ∧ ∀ y, sw_d la lb s t (x + 1) y ≤ sw_d la lb s t x y + 1 := by
  have one : ∀ x, (∀ y, sw_d la lb s t x y ≤ sw_d la lb s t x (y + 1)) → ∀ y, sw_d la lb s t (x + 1) y ≤ sw_d la lb s t x y + 1 := by
    intro x h y
    induction y with
    | zero => rw [sw_d_x0]; exact Nat.zero_le _
    | succ y ihy =>
      have h1 := h y
      rw [sw_d_s]
      split <;> omega
  intro x
  induction x with
  | zero => exact ⟨fun y => Nat.le_refl 0, one 0 (fun y => Nat.le_refl 0)⟩
  | succ x ih =>
    have h3 : ∀ y, sw_d la lb s t (x + 1) y ≤ sw_d la lb s t (x + 1) (y + 1) := by
      intro y
      have h1 := ih.1 y
      have h2 := ih.2 y
      rw [sw_d_s]
      split <;> omega
    exact ⟨h3, one (x + 1) h3⟩
theorem sw_d_last (la lb : Nat → Int32) (s t x y : Nat) : sw_d la lb s t x y ≤ sw_d la lb s t x (y + 1) := (sw_d_step la lb s t x).1 y
/-- one cell -/
theorem sw_cell {v r thr v' r' : Int32} {mt : Prop} [Decidable mt] {d0 d1 d2 d3 : Nat} (h1 : d2 = d0 + (if thr ≤ r then 1 else 0)) (h2 : d1 = d0 + (if v < thr then 1 else 0)) (e1 : v' = if mt ∨ v < r then r else v) (e2 : r' = if mt ∨ v < r then v else r) (e3 : d3 = if mt then d0 + 1 else max d1 d2) :
    d3 = d1 + (if thr ≤ r' then 1 else 0) ∧ d3 = d2 + (if v' < thr then 1 else 0) := by
  by_cases hm : mt
  · rw [if_pos hm] at e3
    rw [if_pos (Or.inl hm)] at e1 e2
    subst e1; subst e2
    simp only [sw_lt, sw_le] at *
    constructor <;> split <;> split at h1 <;> split at h2 <;> omega
  · rw [if_neg hm] at e3
    by_cases hc : v < r
    · rw [if_pos (Or.inr hc)] at e1 e2
      subst e1; subst e2
      simp only [sw_lt, sw_le] at *
      constructor <;> split <;> split at h1 <;> split at h2 <;> omega
    · have hq : ¬ (mt ∨ v < r) := fun h => h.elim hm hc
      rw [if_neg hq] at e1 e2
      subst e1; subst e2
      simp only [sw_lt, sw_le] at *
      constructor <;> split <;> split at h1 <;> split at h2 <;> omega
/-- THE STRANDS AND THE TABLE: behind a corner (s, t) where all strands from above are at or behind thr, all from the left before it -/
theorem sw_main {la lb : Nat → Int32} {s t X Y : Nat} {thr : Int32} (top : ∀ y, y < Y → ¬ sw_v la lb s (t + y) < thr) (left : ∀ x, x < X → sw_r la lb (s + x) t < thr) :
    ∀ x, x ≤ X → (∀ y, y < Y → sw_d la lb s t x (y + 1) = sw_d la lb s t x y + (if sw_v la lb (s + x) (t + y) < thr then 1 else 0)) ∧ (x < X → ∀ y, y ≤ Y → sw_d la lb s t (x + 1) y = sw_d la lb s t x y + (if thr ≤ sw_r la lb (s + x) (t + y) then 1 else 0)) := by
  have row : ∀ x, x < X → (∀ y, y < Y → sw_d la lb s t x (y + 1) = sw_d la lb s t x y + (if sw_v la lb (s + x) (t + y) < thr then 1 else 0)) → ∀ y, y ≤ Y → (sw_d la lb s t (x + 1) y = sw_d la lb s t x y + (if thr ≤ sw_r la lb (s + x) (t + y) then 1 else 0)) ∧ ∀ y', y' + 1 = y → sw_d la lb s t (x + 1) y = sw_d la lb s t (x + 1) y' + (if sw_v la lb (s + (x + 1)) (t + y') < thr then 1 else 0) := by
    intro x hx hv y
    induction y with
    | zero =>
      intro _
      refine ⟨?_, fun y' h => absurd h (by omega)⟩
      rw [sw_d_x0, sw_d_x0, Nat.add_zero, if_neg (sw_nle.mpr (left x hx))]
    | succ y ih =>
      intro hy
      have h1 := (ih (by omega)).1
      have h2 := hv y (by omega)
      have g := sw_cell h1 h2 (sw_v_s la lb (s + x) (t + y)) (sw_r_s la lb (s + x) (t + y)) (sw_d_s la lb s t x y)
      refine ⟨g.1, fun y' h => ?_⟩
      have : y' = y := by omega
      subst this
      exact g.2
  intro x
  induction x with
  | zero =>
    intro _
    have h0 : ∀ y, y < Y → sw_d la lb s t 0 (y + 1) = sw_d la lb s t 0 y + (if sw_v la lb (s + 0) (t + y) < thr then 1 else 0) := by
      intro y hy
      rw [sw_d_0, sw_d_0, Nat.add_zero, if_neg (top y hy)]
    exact ⟨h0, fun h y hy => (row 0 h h0 y hy).1⟩
  | succ x ih =>
    intro hx
    have h0 := (ih (by omega)).1
    have h1 : ∀ y, y < Y → sw_d la lb s t (x + 1) (y + 1) = sw_d la lb s t (x + 1) y + (if sw_v la lb (s + (x + 1)) (t + y) < thr then 1 else 0) := fun y hy => (row x (by omega) h0 (y + 1) (by omega)).2 y rfl
    exact ⟨h1, fun h y hy => (row (x + 1) h h1 y hy).1⟩
/-- along the lower side -/
theorem sw_low {la lb : Nat → Int32} {s t X Y : Nat} {thr : Int32} (top : ∀ y, y < Y → ¬ sw_v la lb s (t + y) < thr) (left : ∀ x, x < X → sw_r la lb (s + x) t < thr) {x y : Nat} (hx : x ≤ X) (hy : y ≤ Y) :
    sw_d la lb s t x y = sw_cnt (fun c => decide (sw_v la lb (s + x) (t + c) < thr)) y := by
  induction y with
  | zero => exact sw_d_x0 la lb s t x
  | succ y ih =>
    rw [(sw_main top left x hx).1 y (by omega), ih (by omega)]
    simp only [sw_cnt, decide_eq_true_eq]
/-- along the right side -/
theorem sw_side {la lb : Nat → Int32} {s t X Y : Nat} {thr : Int32} (top : ∀ y, y < Y → ¬ sw_v la lb s (t + y) < thr) (left : ∀ x, x < X → sw_r la lb (s + x) t < thr) {x y : Nat} (hx : x ≤ X) (hy : y ≤ Y) :
    sw_d la lb s t x y = sw_cnt (fun r => decide (thr ≤ sw_r la lb (s + r) (t + y))) x := by
  induction x with
  | zero => rfl
  | succ x ih =>
    rw [(sw_main top left x (by omega)).2 (by omega) y hy, ih (by omega)]
    simp only [sw_cnt, decide_eq_true_eq]
/-- thr in the columns: the corner (0, i) -/
theorem sw_cornerB {la lb : Nat → Int32} {i N M : Nat} (hi : i ≤ N) (hN : N < 1000) (hM : M < 1000) :
    (∀ y, y < N - i → ¬ sw_v la lb 0 (i + y) < nI i) ∧ (∀ x, x < M → sw_r la lb (0 + x) i < nI i) ∧ ∀ x, x ≤ M → ∀ c, c < i → sw_v la lb x c < nI i := by
  have hv := sw_all (la := la) (lb := lb) (P := fun z => z < nI i) (X := M) (C := i) (fun c hc => nI_lt hc (by omega)) (fun x hx => by
    rw [sw_lt, sw_row0 (by omega), nI_toInt (by omega)]; omega)
  refine ⟨fun y hy => ?_, fun x hx => ?_, fun x hx c hc => (hv x hx).1 c hc⟩
  · rw [sw_v_0]; exact nI_nlt (by omega) (by omega)
  · rw [Nat.zero_add]; exact (hv x (by omega)).2 hx i (Nat.le_refl i)
/-- thr in the rows: the corner (k, 0) -/
theorem sw_cornerA {la lb : Nat → Int32} {k N M : Nat} (hk : k ≤ M) (hN : N < 1000) (hM : M < 1000) :
    (∀ y, y < N → ¬ sw_v la lb k (0 + y) < 0 - nI k) ∧ (∀ x, x < M - k → sw_r la lb (k + x) 0 < 0 - nI k) ∧ ∀ x, x < k → ∀ c, c ≤ N → 0 - nI k ≤ sw_r la lb x c := by
  have hv := sw_all (la := la) (lb := lb) (P := fun z => 0 - nI k ≤ z) (X := k) (C := N) (fun c hc => by
    rw [sw_le, sw_neg (by omega), nI_toInt (by omega)]; omega) (fun x hx => by
    rw [sw_le, sw_neg (by omega), sw_row0 (by omega)]; omega)
  refine ⟨fun y hy => ?_, fun x hx => ?_, fun x hx c hc => (hv x (by omega)).2 hx c hc⟩
  · rw [Nat.zero_add]; exact sw_nlt.mpr ((hv k (Nat.le_refl k)).1 y hy)
  · rw [sw_r_0, sw_lt, sw_row0 (by omega), sw_neg (by omega)]; omega
/-- what 'common' of the class counts -/
def sw_st (la lb : Nat → Int32) (M N : Nat) (fv tv : Int32) : Nat := sw_cnt (fun j => decide (fv ≤ sw_v la lb M j) && decide (nI j < tv)) N + sw_cnt (fun i => decide (fv ≤ sw_r la lb i N) && decide (nI N + nI M - 1 - nI i < tv)) M
theorem sw_last {M N i : Nat} (hi : i < M) (hN : N < 1000) (hM : M < 1000) : (nI N + nI M - 1 - nI i).toInt = N + M - 1 - i := by
  have e : nI N + nI M - 1 - nI i = nI (N + M - 1 - i) := by
    rw [nI_add, show (1 : Int32) = nI 1 from rfl, pk_sub (by omega), pk_sub (by omega)]
  rw [e, nI_toInt (by omega)]; omega
/-- a stretch of the columns -/
theorem sw_stB {la lb : Nat → Int32} {M N i j : Nat} (hij : i ≤ j) (hj : j ≤ N) (hN : N < 1000) (hM : M < 1000) : sw_st la lb M N (nI i) (nI j) + sw_d la lb 0 i M (j - i) = j - i := by
  obtain ⟨top, left, out⟩ := sw_cornerB (la := la) (lb := lb) (i := i) (N := N) (M := M) (by omega) hN hM
  rw [sw_low top left (Nat.le_refl M) (show j - i ≤ N - i by omega)]
  unfold sw_st
  rw [sw_cnt_none (n := M) (fun k hk => by
    simp only [Bool.and_eq_false_iff, decide_eq_false_iff_not]
    right
    rw [sw_lt, sw_last hk hN hM, nI_toInt (by omega)]; omega), Nat.add_zero]
  obtain ⟨w, rfl⟩ : ∃ w, j = i + w := ⟨j - i, by omega⟩
  obtain ⟨z, rfl⟩ : ∃ z, N = i + w + z := ⟨N - (i + w), by omega⟩
  rw [sw_cnt_add, sw_cnt_none (n := z) (fun k hk => by
    simp only [Bool.and_eq_false_iff, decide_eq_false_iff_not]
    right
    exact nI_nlt (by omega) (by omega)), Nat.add_zero, sw_cnt_add, sw_cnt_none (n := i) (fun k hk => by
    simp only [Bool.and_eq_false_iff, decide_eq_false_iff_not]
    left
    exact sw_nle.mpr (out M (Nat.le_refl M) k hk)), Nat.zero_add, show i + w - i = w by omega]
  rw [show (fun c => decide (sw_v la lb (0 + M) (i + c) < nI i)) = (fun c => decide (sw_v la lb M (i + c) < nI i)) by rw [Nat.zero_add]]
  have h := sw_cnt_not (fun c => decide (sw_v la lb M (i + c) < nI i)) w
  rw [sw_cnt_congr (p := fun k => decide (nI i ≤ sw_v la lb M (i + k)) && decide (nI (i + k) < nI (i + w))) (q := fun c => !decide (sw_v la lb M (i + c) < nI i)) (fun k hk => by
    rw [show decide (nI (i + k) < nI (i + w)) = true from decide_eq_true (nI_lt (by omega) (by omega)), Bool.and_true, ← decide_not]
    exact decide_eq_decide.mpr sw_nlt.symm)]
  omega
/-- rows from k to x against all columns, with places that fit all on both sides; also the columns before j at the lower side -/
theorem sw_stA {la lb : Nat → Int32} {M N i j : Nat} (hij : i ≤ j) (hj : j ≤ M) (hN : N < 1000) (hM : M < 1000) : sw_st la lb M N (0 - nI i) (nI N + nI (M - j)) + sw_d la lb i 0 (j - i) N = N := by
  obtain ⟨top, left, out⟩ := sw_cornerA (la := la) (lb := lb) (k := i) (N := N) (M := M) (by omega) hN hM
  have e1 := sw_low top left (show M - i ≤ M - i by omega) (Nat.le_refl N)
  have e2 := sw_side top left (show M - i ≤ M - i by omega) (Nat.le_refl N)
  have e3 := sw_side top left (show j - i ≤ M - i by omega) (Nat.le_refl N)
  rw [show i + (M - i) = M by omega] at e1
  simp only [Nat.zero_add] at e1 e2 e3
  unfold sw_st
  have a1 : sw_cnt (fun c => decide (0 - nI i ≤ sw_v la lb M c) && decide (nI c < nI N + nI (M - j))) N = sw_cnt (fun c => !decide (sw_v la lb M c < 0 - nI i)) N := sw_cnt_congr (fun k hk => by
    rw [show decide (nI k < nI N + nI (M - j)) = true from decide_eq_true (by rw [nI_add]; exact nI_lt (by omega) (by omega)), Bool.and_true, ← decide_not]
    exact decide_eq_decide.mpr sw_nlt.symm)
  have a2 := sw_cnt_not (fun c => decide (sw_v la lb M c < 0 - nI i)) N
  obtain ⟨w, rfl⟩ : ∃ w, j = i + w := ⟨j - i, by omega⟩
  obtain ⟨z, rfl⟩ : ∃ z, M = i + w + z := ⟨M - (i + w), by omega⟩
  have a3 : sw_cnt (fun r => decide (0 - nI i ≤ sw_r la lb r N) && decide (nI N + nI (i + w + z) - 1 - nI r < nI N + nI (i + w + z - (i + w)))) (i + w + z) = sw_cnt (fun r => decide (0 - nI i ≤ sw_r la lb (i + w + r) N)) z := by
    rw [sw_cnt_add, sw_cnt_none (n := i + w) (fun k hk => by
      simp only [Bool.and_eq_false_iff, decide_eq_false_iff_not]
      right
      rw [sw_lt, sw_last (by omega) hN hM, nI_add, nI_toInt (by omega)]; omega), Nat.zero_add]
    exact sw_cnt_congr (fun k hk => by
      rw [show decide (nI N + nI (i + w + z) - 1 - nI (i + w + k) < nI N + nI (i + w + z - (i + w))) = true from decide_eq_true (by
        rw [sw_lt, sw_last (by omega) hN hM, nI_add, nI_toInt (by omega)]; omega), Bool.and_true])
  have a4 : sw_cnt (fun r => decide (0 - nI i ≤ sw_r la lb (i + r) N)) (w + z) = sw_cnt (fun r => decide (0 - nI i ≤ sw_r la lb (i + r) N)) w + sw_cnt (fun r => decide (0 - nI i ≤ sw_r la lb (i + w + r) N)) z := by
    rw [sw_cnt_add]
    simp only [Nat.add_assoc]
  rw [show i + w - i = w by omega] at e3 ⊢
  rw [show i + w + z - i = w + z by omega] at e1 e2
  rw [a1, a3]
  omega
/-- the end of the rows, the begin of the columns -/
theorem sw_stE {la lb : Nat → Int32} {M N k j : Nat} (hk : k ≤ M) (hj : j ≤ N) (hN : N < 1000) (hM : M < 1000) : sw_st la lb M N (0 - nI k) (nI j) + sw_d la lb k 0 (M - k) j = j := by
  obtain ⟨top, left, out⟩ := sw_cornerA (la := la) (lb := lb) (k := k) (N := N) (M := M) (by omega) hN hM
  rw [sw_low top left (show M - k ≤ M - k by omega) hj, show k + (M - k) = M by omega]
  simp only [Nat.zero_add]
  unfold sw_st
  rw [sw_cnt_none (n := M) (fun r hr => by
    simp only [Bool.and_eq_false_iff, decide_eq_false_iff_not]
    right
    rw [sw_lt, sw_last hr hN hM, nI_toInt (by omega)]; omega), Nat.add_zero]
  obtain ⟨z, rfl⟩ : ∃ z, N = j + z := ⟨N - j, by omega⟩
  rw [sw_cnt_add, sw_cnt_none (n := z) (fun c hc => by
    simp only [Bool.and_eq_false_iff, decide_eq_false_iff_not]
    right
    exact nI_nlt (by omega) (by omega)), Nat.add_zero]
  have h := sw_cnt_not (fun c => decide (sw_v la lb M c < 0 - nI k)) j
  rw [sw_cnt_congr (p := fun c => decide (0 - nI k ≤ sw_v la lb M c) && decide (nI c < nI j)) (q := fun c => !decide (sw_v la lb M c < 0 - nI k)) (fun c hc => by
    rw [show decide (nI c < nI j) = true from decide_eq_true (nI_lt (by omega) (by omega)), Bool.and_true, ← decide_not]
    exact decide_eq_decide.mpr sw_nlt.symm)]
  omega
/-- the begin of the rows, the end of the columns -/
theorem sw_stF {la lb : Nat → Int32} {M N k i : Nat} (hk : k ≤ M) (hi : i ≤ N) (hN : N < 1000) (hM : M < 1000) : sw_st la lb M N (nI i) (nI N + nI (M - k)) + sw_d la lb 0 i k (N - i) = N - i := by
  obtain ⟨top, left, out⟩ := sw_cornerB (la := la) (lb := lb) (i := i) (N := N) (M := M) hi hN hM
  have e1 := sw_low top left (Nat.le_refl M) (Nat.le_refl (N - i))
  have e2 := sw_side top left (Nat.le_refl M) (Nat.le_refl (N - i))
  have e3 := sw_side top left hk (Nat.le_refl (N - i))
  rw [show i + (N - i) = N by omega] at e2 e3
  simp only [Nat.zero_add] at e1 e2 e3
  unfold sw_st
  obtain ⟨w, rfl⟩ : ∃ w, N = i + w := ⟨N - i, by omega⟩
  obtain ⟨z, rfl⟩ : ∃ z, M = k + z := ⟨M - k, by omega⟩
  rw [show i + w - i = w by omega] at *
  have a1 : sw_cnt (fun c => decide (nI i ≤ sw_v la lb (k + z) c) && decide (nI c < nI (i + w) + nI (k + z - k))) (i + w) = sw_cnt (fun c => !decide (sw_v la lb (k + z) (i + c) < nI i)) w := by
    rw [sw_cnt_add, sw_cnt_none (n := i) (fun c hc => by
      simp only [Bool.and_eq_false_iff, decide_eq_false_iff_not]
      left
      exact sw_nle.mpr (out _ (Nat.le_refl _) c hc)), Nat.zero_add]
    exact sw_cnt_congr (fun c hc => by
      rw [show decide (nI (i + c) < nI (i + w) + nI (k + z - k)) = true from decide_eq_true (by rw [nI_add]; exact nI_lt (by omega) (by omega)), Bool.and_true, ← decide_not]
      exact decide_eq_decide.mpr sw_nlt.symm)
  have a2 := sw_cnt_not (fun c => decide (sw_v la lb (k + z) (i + c) < nI i)) w
  have a3 : sw_cnt (fun r => decide (nI i ≤ sw_r la lb r (i + w)) && decide (nI (i + w) + nI (k + z) - 1 - nI r < nI (i + w) + nI (k + z - k))) (k + z) = sw_cnt (fun r => decide (nI i ≤ sw_r la lb (k + r) (i + w))) z := by
    rw [sw_cnt_add, sw_cnt_none (n := k) (fun r hr => by
      simp only [Bool.and_eq_false_iff, decide_eq_false_iff_not]
      right
      rw [sw_lt, sw_last (by omega) hN hM, nI_add, nI_toInt (by omega)]; omega), Nat.zero_add]
    exact sw_cnt_congr (fun r hr => by
      rw [show decide (nI (i + w) + nI (k + z) - 1 - nI (k + r) < nI (i + w) + nI (k + z - k)) = true from decide_eq_true (by
        rw [sw_lt, sw_last (by omega) hN hM, nI_add, nI_toInt (by omega)]; omega), Bool.and_true])
  have a4 := sw_cnt_add (fun r => decide (nI i ≤ sw_r la lb r (i + w))) k z
  rw [a1, a3]
  omega
end
section
/-! THE PLAIN LAW, 2: changes, spaced words, what the methods answer. -/
/-- a row of the table of changes -/
def sw_erow (x : Int32) (lb : Nat → Int32) (prev : Nat → Nat) (x0 : Nat) : Nat → Nat
  | 0 => x0 + 1
  | y + 1 => min (prev y + (if x = lb y then 0 else 1)) (min (prev (y + 1)) (sw_erow x lb prev x0 y) + 1)
/-- the table of changes -/
def sw_e (la lb : Nat → Int32) (s t : Nat) : Nat → Nat → Nat
  | 0 => fun y => y
  | x + 1 => sw_erow (la (s + x)) (fun y => lb (t + y)) (sw_e la lb s t x) x
theorem sw_e_0 (la lb : Nat → Int32) (s t y : Nat) : sw_e la lb s t 0 y = y := rfl
theorem sw_e_x0 (la lb : Nat → Int32) (s t x : Nat) : sw_e la lb s t x 0 = x := by cases x <;> rfl
theorem sw_e_s (la lb : Nat → Int32) (s t x y : Nat) : sw_e la lb s t (x + 1) (y + 1) = min (sw_e la lb s t x y + (if la (s + x) = lb (t + y) then 0 else 1)) (min (sw_e la lb s t x (y + 1)) (sw_e la lb s t (x + 1) y) + 1) := rfl
theorem sw_e_upx (la lb : Nat → Int32) (s t x y : Nat) : sw_e la lb s t (x + 1) y ≤ sw_e la lb s t x y + 1 := by
  cases y with
  | zero => rw [sw_e_x0, sw_e_x0]; exact Nat.le_refl _
  | succ y => rw [sw_e_s]; omega
theorem sw_e_upy (la lb : Nat → Int32) (s t x y : Nat) : sw_e la lb s t x (y + 1) ≤ sw_e la lb s t x y + 1 := by
  cases x with
  | zero => exact Nat.le_refl _
  | succ x => rw [sw_e_s]; omega
theorem sw_e_loy (la lb : Nat → Int32) (s t : Nat) : ∀ x y, sw_e la lb s t x y ≤ sw_e la lb s t x (y + 1) + 1 := by
  intro x
  induction x with
  | zero => intro y; rw [sw_e_0, sw_e_0]; omega
  | succ x ih =>
    intro y
    have h1 := sw_e_upx la lb s t x y
    have h2 := ih y
    rw [sw_e_s]
    omega
theorem sw_e_lox (la lb : Nat → Int32) (s t x : Nat) : ∀ y, sw_e la lb s t x y ≤ sw_e la lb s t (x + 1) y + 1 := by
  intro y
  induction y with
  | zero => rw [sw_e_x0, sw_e_x0]; omega
  | succ y ih =>
    have h1 := sw_e_upy la lb s t x y
    rw [sw_e_s]
    omega
theorem sw_e_le (la lb : Nat → Int32) (s t x y : Nat) : sw_e la lb s t x y ≤ x + y := by
  induction y with
  | zero => rw [sw_e_x0]; omega
  | succ y ih => have h := sw_e_upy la lb s t x y; omega
/-- a word with blanks: 9 ahead of each letter -/
def sw_sp (f : Nat → Int32) (i : Nat) : Int32 := if i % 2 = 0 then 9 else f (i / 2)
theorem sw_sp_0 (f : Nat → Int32) (s x : Nat) : sw_sp f (2 * s + 2 * x) = 9 := by unfold sw_sp; rw [if_pos (by omega)]
theorem sw_sp_1 (f : Nat → Int32) (s x : Nat) : sw_sp f (2 * s + (2 * x + 1)) = f (s + x) := by unfold sw_sp; rw [if_neg (by omega), show (2 * s + (2 * x + 1)) / 2 = s + x by omega]
/-- WITH BLANKS: common letters of the spaced words and changes -/
theorem sw_spaced {la lb : Nat → Int32} {s t X Y : Nat} (ha : ∀ x, x < X → la (s + x) ≠ 9) (hb : ∀ y, y < Y → lb (t + y) ≠ 9) :
    ∀ x, x ≤ X → ∀ y, y ≤ Y → sw_d (sw_sp la) (sw_sp lb) (2 * s) (2 * t) (2 * x) (2 * y) + sw_e la lb s t x y = x + y := by
  have d11 : ∀ x y, sw_d (sw_sp la) (sw_sp lb) (2 * s) (2 * t) (2 * x + 1) (2 * y + 1) = sw_d (sw_sp la) (sw_sp lb) (2 * s) (2 * t) (2 * x) (2 * y) + 1 := by
    intro x y
    rw [sw_d_s, sw_sp_0, sw_sp_0, if_pos rfl]
  intro x
  induction x with
  | zero => intro _ y _; rw [Nat.mul_zero, sw_d_0, sw_e_0]
  | succ x ih =>
    intro hx y
    induction y with
    | zero => intro _; rw [Nat.mul_zero, sw_d_x0, sw_e_x0]; omega
    | succ y ihy =>
      intro hy
      have h00 := ih (by omega) y (by omega)
      have h01 := ih (by omega) (y + 1) hy
      have h10 := ihy (by omega)
      have n1 : ¬ (9 : Int32) = lb (t + y) := fun h => hb y (by omega) h.symm
      have n2 : ¬ la (s + x) = (9 : Int32) := ha x (by omega)
      have e1 := sw_d_s (sw_sp la) (sw_sp lb) (2 * s) (2 * t) (2 * x + 1) (2 * y + 1)
      have e2 := sw_d_s (sw_sp la) (sw_sp lb) (2 * s) (2 * t) (2 * x) (2 * y + 1)
      have e3 := sw_d_s (sw_sp la) (sw_sp lb) (2 * s) (2 * t) (2 * x + 1) (2 * y)
      rw [sw_sp_1, sw_sp_1] at e1
      rw [sw_sp_0, sw_sp_1, if_neg n1] at e2
      rw [sw_sp_1, sw_sp_0, if_neg n2] at e3
      have e4 := d11 x y
      have l1 := sw_e_lox la lb s t x y
      have l2 := sw_e_loy la lb s t x y
      have e5 := sw_e_s la lb s t x y
      rw [show 2 * (x + 1) = 2 * x + 1 + 1 by omega] at *
      rw [show 2 * (y + 1) = 2 * y + 1 + 1 by omega] at *
      by_cases hm : la (s + x) = lb (t + y)
      · rw [if_pos hm] at e1 e5
        omega
      · rw [if_neg hm] at e1 e5
        omega
/-- what 'common' of the class answers -/
def sw_cm (la lb : Nat → Int32) (M N : Nat) (fv tv : Int32) : Int32 := tv - fv - nI (sw_st la lb M N fv tv)
theorem sw_cmB {la lb : Nat → Int32} {M N i j : Nat} (hij : i ≤ j) (hj : j ≤ N) (hN : N < 1000) (hM : M < 1000) : sw_cm la lb M N (nI i) (nI j) = nI (sw_d la lb 0 i M (j - i)) := by
  have h := sw_stB (la := la) (lb := lb) (M := M) hij hj hN hM
  unfold sw_cm
  rw [pk_sub hij, pk_sub (by omega)]
  congr 1
  omega
theorem sw_cmA {la lb : Nat → Int32} {M N i j : Nat} (hij : i ≤ j) (hj : j ≤ M) (hN : N < 1000) (hM : M < 1000) : sw_cm la lb M N (0 - nI i) (nI N + nI (M - j)) - nI i - nI (M - j) = nI (sw_d la lb i 0 (j - i) N) := by
  have h := sw_stA (la := la) (lb := lb) (N := N) hij hj hN hM
  unfold sw_cm
  have e : nI N + nI (M - j) - (0 - nI i) = nI (N + (M - j) + i) := by
    rw [nI_add]
    apply sw_eqI
    rw [sw_sub] <;> rw [sw_neg (by omega), nI_toInt (by omega)] <;> (try rw [nI_toInt (by omega)]) <;> omega
  rw [e, pk_sub (by omega), pk_sub (by omega), pk_sub (by omega)]
  congr 1
  omega
theorem sw_cmE {la lb : Nat → Int32} {M N k j : Nat} (hk : k ≤ M) (hj : j ≤ N) (hN : N < 1000) (hM : M < 1000) : sw_cm la lb M N (0 - nI k) (nI j) - nI k = nI (sw_d la lb k 0 (M - k) j) := by
  have h := sw_stE (la := la) (lb := lb) hk hj hN hM
  unfold sw_cm
  have e : nI j - (0 - nI k) = nI (j + k) := by
    apply sw_eqI
    rw [sw_sub] <;> rw [sw_neg (by omega), nI_toInt (by omega)] <;> (try rw [nI_toInt (by omega)]) <;> omega
  rw [e, pk_sub (by omega), pk_sub (by omega)]
  congr 1
  omega
theorem sw_cmF {la lb : Nat → Int32} {M N k i : Nat} (hk : k ≤ M) (hi : i ≤ N) (hN : N < 1000) (hM : M < 1000) : sw_cm la lb M N (nI i) (nI N + nI (M - k)) - nI (M - k) = nI (sw_d la lb 0 i k (N - i)) := by
  have h := sw_stF (la := la) (lb := lb) hk hi hN hM
  unfold sw_cm
  rw [nI_add, pk_sub (by omega), pk_sub (by rw [← nI_add]; omega), pk_sub (by rw [← nI_add]; omega)]
  congr 1
  rw [← nI_add]
  omega
/-- the best of the first k -/
def sw_best (f : Nat → Nat) : Nat → Nat
  | 0 => 0
  | k + 1 => max (sw_best f k) (f k)
theorem sw_best_congr {f g : Nat → Nat} {k : Nat} (h : ∀ i, i < k → f i = g i) : sw_best f k = sw_best g k := by
  induction k with
  | zero => rfl
  | succ k ih => unfold sw_best; rw [ih (fun i hi => h i (by omega)), h k (by omega)]
theorem sw_best_le {f : Nat → Nat} {b : Nat} (h : ∀ i, f i ≤ b) (k : Nat) : sw_best f k ≤ b := by
  induction k with
  | zero => exact Nat.zero_le _
  | succ k ih => unfold sw_best; have := h k; omega
/-- the widest answer for stretches of w letters -/
def sw_wid (la lb : Nat → Int32) (m n w : Nat) : Nat := sw_best (fun i => sw_d la lb 0 i m w) (n - w + 1)
theorem sw_wid_0 (la lb : Nat → Int32) (m n : Nat) : sw_wid la lb m n 0 = 0 := by
  unfold sw_wid
  have : ∀ k, sw_best (fun i => sw_d la lb 0 i m 0) k = 0 := by
    intro k
    induction k with
    | zero => rfl
    | succ k ih => unfold sw_best; rw [ih, sw_d_x0]; rfl
  exact this _
/-- shortest: the relation that fixes the answer -/
def sw_isShort (g : Nat → Nat) (n : Nat) (k r : Int32) : Prop := (∃ w, w ≤ n ∧ r = nI w ∧ k ≤ nI (g w) ∧ ∀ w', w' < w → ¬ k ≤ nI (g w')) ∨ (r = -4 ∧ ∀ w, w ≤ n → ¬ k ≤ nI (g w))
theorem sw_short_one {g : Nat → Nat} {n : Nat} {k r r' : Int32} (h : sw_isShort g n k r) (h' : sw_isShort g n k r') : r = r' := by
  rcases h with ⟨w, hw, e, h1, h2⟩ | ⟨e, h⟩ <;> rcases h' with ⟨w', hw', e', h1', h2'⟩ | ⟨e', h'⟩
  · have : w = w' := by
      rcases Nat.lt_trichotomy w w' with q | q | q
      · exact absurd h1 (h2' w q)
      · exact q
      · exact absurd h1' (h2 w' q)
    rw [e, e', this]
  · exact absurd h1 (h' w hw)
  · exact absurd h1' (h w' hw')
  · rw [e, e']
/-- nearest stretch: the first of the best, by rows -/
def sw_isAt (g : Nat → Nat → Nat) (n : Nat) (r : Int32) : Prop := ∃ i j, i ≤ j ∧ j ≤ n ∧ r = nI (16 * i + j) ∧ (∀ i' j', i' ≤ j' → j' ≤ n → g i j ≤ g i' j') ∧ ∀ i' j', i' ≤ j' → j' ≤ n → (i' < i ∨ (i' = i ∧ j' < j)) → g i j < g i' j'
theorem sw_at_one {g : Nat → Nat → Nat} {n : Nat} {r r' : Int32} (h : sw_isAt g n r) (h' : sw_isAt g n r') : r = r' := by
  obtain ⟨i, j, a1, a2, e, a3, a4⟩ := h
  obtain ⟨i', j', b1, b2, e', b3, b4⟩ := h'
  have h1 := a3 i' j' b1 b2
  have h2 := b3 i j a1 a2
  have h3 : ¬ (i' < i ∨ (i' = i ∧ j' < j)) := fun q => by have := a4 i' j' b1 b2 q; omega
  have h4 : ¬ (i < i' ∨ (i = i' ∧ j < j')) := fun q => by have := b4 i j a1 a2 q; omega
  have : i = i' := by omega
  have : j = j' := by omega
  subst_vars
  rfl
def sw_isMin (g : Nat → Nat → Nat) (n : Nat) (r : Int32) : Prop := ∃ i j, i ≤ j ∧ j ≤ n ∧ r = nI (g i j) ∧ ∀ i' j', i' ≤ j' → j' ≤ n → g i j ≤ g i' j'
theorem sw_min_one {g : Nat → Nat → Nat} {n : Nat} {r r' : Int32} (h : sw_isMin g n r) (h' : sw_isMin g n r') : r = r' := by
  obtain ⟨i, j, a1, a2, e, a3⟩ := h
  obtain ⟨i', j', b1, b2, e', b3⟩ := h'
  have h1 := a3 i' j' b1 b2
  have h2 := b3 i j a1 a2
  rw [e, e', show g i j = g i' j' by omega]
/-- sums -/
def sw_sum (f : Nat → Nat) : Nat → Nat
  | 0 => 0
  | k + 1 => sw_sum f k + f k
theorem sw_sum_congr {f g : Nat → Nat} {k : Nat} (h : ∀ i, i < k → f i = g i) : sw_sum f k = sw_sum g k := by
  induction k with
  | zero => rfl
  | succ k ih => unfold sw_sum; rw [ih (fun i hi => h i (by omega)), h k (by omega)]
theorem sw_sum_1 (f : Nat → Nat) (k : Nat) : sw_sum (fun i => 1 + f i) k = k + sw_sum f k := by
  induction k with
  | zero => rfl
  | succ k ih => unfold sw_sum; rw [ih]; omega
/-- a stretch (i, j) is tight: no other stretch in it has as much -/
def sw_ti (G : Nat → Nat → Nat) (i j : Nat) : Prop := ∀ k, k ≤ j → i ≤ k → ∀ l, l ≤ j → k ≤ l → (k ≠ i ∨ l ≠ j) → G k l < G i j
noncomputable def sw_tt (G : Nat → Nat → Nat) (i j : Nat) : Bool := @decide (sw_ti G i j) (Classical.propDecidable _)
theorem sw_tt_t {G : Nat → Nat → Nat} {i j : Nat} (h : sw_ti G i j) : sw_tt G i j = true := @decide_eq_true _ (Classical.propDecidable _) h
theorem sw_tt_f {G : Nat → Nat → Nat} {i j : Nat} (h : ¬ sw_ti G i j) : sw_tt G i j = false := @decide_eq_false _ (Classical.propDecidable _) h
/-- stretches grow -/
theorem sw_win (la lb : Nat → Int32) (m : Nat) : ∀ (z i k j l : Nat), i ≤ k → k ≤ l → l ≤ j → z = (k - i) + (j - l) → sw_d la lb 0 k m (l - k) ≤ sw_d la lb 0 i m (j - i) := by
  intro z
  induction z with
  | zero =>
    intro i k j l h1 h2 h3 h4
    have : i = k := by omega
    have : j = l := by omega
    subst_vars
    exact Nat.le_refl _
  | succ z ih =>
    intro i k j l h1 h2 h3 h4
    rcases Nat.lt_or_ge i k with q | q
    · have h := ih (i + 1) k j l (by omega) h2 h3 (by omega)
      have h' := sw_d_first la lb 0 i m (j - (i + 1))
      rw [show j - (i + 1) + 1 = j - i by omega] at h'
      omega
    · have h := ih i k (j - 1) l h1 h2 (by omega) (by omega)
      have h' := sw_d_last la lb 0 i m (j - 1 - i)
      rw [show j - 1 - i + 1 = j - i by omega] at h'
      omega
/-- tight by its two neighbours -/
theorem sw_tight_iff (la lb : Nat → Int32) (m i j : Nat) (h : i < j) : sw_tt (fun i j => sw_d la lb 0 i m (j - i)) i j = (decide (sw_d la lb 0 i m (j - 1 - i) < sw_d la lb 0 i m (j - i)) && decide (sw_d la lb 0 (i + 1) m (j - (i + 1)) < sw_d la lb 0 i m (j - i))) := by
  unfold sw_tt
  rw [← Bool.decide_and]
  apply decide_eq_decide.mpr
  unfold sw_ti
  constructor
  · intro q
    exact ⟨q i (by omega) (by omega) (j - 1) (by omega) (by omega) (Or.inr (by omega)), q (i + 1) (by omega) (by omega) j (by omega) (by omega) (Or.inl (by omega))⟩
  · intro ⟨q1, q2⟩ k hk hik l hl hkl hne
    show sw_d la lb 0 k m (l - k) < sw_d la lb 0 i m (j - i)
    rcases Nat.lt_or_ge i k with q | q
    · have := sw_win la lb m _ (i + 1) k j l (by omega) hkl hl rfl
      omega
    · have := sw_win la lb m _ i k (j - 1) l (by omega) hkl (by omega) rfl
      omega
theorem sw_tight_self (G : Nat → Nat → Nat) (i : Nat) : sw_tt G i i = true := by
  exact sw_tt_t (fun k hk hik l hl hkl hne => absurd hne (by omega))
/-- how many are tight: the answer of 'tight' -/
noncomputable def sw_nt (G : Nat → Nat → Nat) (n : Nat) : Nat := sw_sum (fun i => sw_cnt (fun d => sw_tt G i (i + d)) (n + 1 - i)) (n + 1)
theorem sw_nt_class (la lb : Nat → Int32) (m n : Nat) : n + 1 + sw_sum (fun i => sw_cnt (fun d => decide (sw_d la lb 0 i m d < sw_d la lb 0 i m (d + 1)) && decide (sw_d la lb 0 (i + 1) m d < sw_d la lb 0 i m (d + 1))) (n - i)) n = sw_nt (fun i j => sw_d la lb 0 i m (j - i)) n := by
  unfold sw_nt
  have h : sw_sum (fun i => sw_cnt (fun d => sw_tt (fun i j => sw_d la lb 0 i m (j - i)) i (i + d)) (n + 1 - i)) (n + 1) = sw_sum (fun i => 1 + sw_cnt (fun d => decide (sw_d la lb 0 i m d < sw_d la lb 0 i m (d + 1)) && decide (sw_d la lb 0 (i + 1) m d < sw_d la lb 0 i m (d + 1))) (n - i)) (n + 1) := by
    apply sw_sum_congr
    intro i hi
    show sw_cnt _ (n + 1 - i) = 1 + sw_cnt _ (n - i)
    rw [show n + 1 - i = 1 + (n - i) by omega, sw_cnt_add]
    congr 1
    · show 0 + (if sw_tt _ i (i + 0) = true then 1 else 0) = 1
      rw [Nat.add_zero, sw_tight_self]; rfl
    · apply sw_cnt_congr
      intro d hd
      show sw_tt _ i (i + (1 + d)) = _
      rw [sw_tight_iff la lb m i (i + (1 + d)) (by omega), show i + (1 + d) - 1 - i = d by omega, show i + (1 + d) - i = d + 1 by omega, show i + (1 + d) - (i + 1) = d by omega]
  rw [h, sw_sum_1]
  show _ = n + 1 + (sw_sum _ n + sw_cnt _ (n - n))
  rw [Nat.sub_self]
  rfl
end
section
/-! ROWS: printed by gen_rows.py -/
section NR
variable {p : Program} {l : Launch} {e : Env} {R : Room} {s : State} {m : MethodId} {args : Array Value} {below : List Frame} {meth : Method} {c : Code} {H : Heap} {locs : List Loc} {cells slots : Nat} {Q : State → Prop}
variable {cc : ByteArray} {pc : Nat} {ls : Array Slot} {rest : List Value}
theorem ni_top {x y : Int32} (h : x = y) (kk : W p l e R s m args below meth c H locs cells slots Q (F0 m pc ls (.int y :: rest))) : W p l e R s m args below meth c H locs cells slots Q (F0 m pc ls (.int x :: rest)) := by rw [h]; exact kk
theorem ni_add (hx : p.tables.exec = Jvm.exec) (hb : c.code = cc) {a b : Nat} (hdg : decode cc pc = .ok (.iadd, 1)) (kk : W p l e R s m args below meth c H locs cells slots Q (F0 m (pc + 1) ls (.int (nI (a + b)) :: rest))) : W p l e R s m args below meth c H locs cells slots Q (F0 m pc ls (.int (nI b) :: .int (nI a) :: rest)) := lv_iadd hx hb hdg (ni_top (nI_add a b) kk)
theorem ni_sub (hx : p.tables.exec = Jvm.exec) (hb : c.code = cc) {a b : Nat} (h : b ≤ a) (hdg : decode cc pc = .ok (.isub, 1)) (kk : W p l e R s m args below meth c H locs cells slots Q (F0 m (pc + 1) ls (.int (nI (a - b)) :: rest))) : W p l e R s m args below meth c H locs cells slots Q (F0 m pc ls (.int (nI b) :: .int (nI a) :: rest)) := lv_isub hx hb hdg (ni_top (pk_sub h) kk)
theorem ni_mul (hx : p.tables.exec = Jvm.exec) (hb : c.code = cc) {a b : Nat} (hdg : decode cc pc = .ok (.imul, 1)) (kk : W p l e R s m args below meth c H locs cells slots Q (F0 m (pc + 1) ls (.int (nI (a * b)) :: rest))) : W p l e R s m args below meth c H locs cells slots Q (F0 m pc ls (.int (nI b) :: .int (nI a) :: rest)) := lv_imul hx hb hdg (ni_top (pk_mul a b) kk)
theorem ni_rem (hx : p.tables.exec = Jvm.exec) (hb : c.code = cc) {a b : Nat} (ha : a < 2 ^ 31) (h0 : 0 < b) (hd : b < 2 ^ 31) (hdg : decode cc pc = .ok (.irem, 1)) (kk : W p l e R s m args below meth c H locs cells slots Q (F0 m (pc + 1) ls (.int (nI (a % b)) :: rest))) : W p l e R s m args below meth c H locs cells slots Q (F0 m pc ls (.int (nI b) :: .int (nI a) :: rest)) := lv_irem hx hb hdg (nI_ne0 h0 hd) (ni_top (pk_rem ha h0 hd) kk)
theorem ni_and1 (hx : p.tables.exec = Jvm.exec) (hb : c.code = cc) {a : Nat} (ha : a < 2 ^ 32) (hdg : decode cc pc = .ok (.iand, 1)) (kk : W p l e R s m args below meth c H locs cells slots Q (F0 m (pc + 1) ls (.int (nI (a % 2)) :: rest))) : W p l e R s m args below meth c H locs cells slots Q (F0 m pc ls (.int (nI 1) :: .int (nI a) :: rest)) := lv_iand hx hb hdg (ni_top (pk_andN ha 1 (by decide)) kk)
theorem ni_and15 (hx : p.tables.exec = Jvm.exec) (hb : c.code = cc) {a : Nat} (ha : a < 2 ^ 32) (hdg : decode cc pc = .ok (.iand, 1)) (kk : W p l e R s m args below meth c H locs cells slots Q (F0 m (pc + 1) ls (.int (nI (a % 16)) :: rest))) : W p l e R s m args below meth c H locs cells slots Q (F0 m pc ls (.int (nI 15) :: .int (nI a) :: rest)) := lv_iand hx hb hdg (ni_top (pk_andN ha 4 (by decide)) kk)
theorem ni_shr1 (hx : p.tables.exec = Jvm.exec) (hb : c.code = cc) {a : Nat} (ha : a < 2 ^ 31) (hdg : decode cc pc = .ok (.ishr, 1)) (kk : W p l e R s m args below meth c H locs cells slots Q (F0 m (pc + 1) ls (.int (nI (a / 2)) :: rest))) : W p l e R s m args below meth c H locs cells slots Q (F0 m pc ls (.int (nI 1) :: .int (nI a) :: rest)) := lv_ishr hx hb hdg (ni_top (pk_shrN ha _ 1 (by decide)) kk)
theorem ni_shr4 (hx : p.tables.exec = Jvm.exec) (hb : c.code = cc) {a : Nat} (ha : a < 2 ^ 31) (hdg : decode cc pc = .ok (.ishr, 1)) (kk : W p l e R s m args below meth c H locs cells slots Q (F0 m (pc + 1) ls (.int (nI (a / 16)) :: rest))) : W p l e R s m args below meth c H locs cells slots Q (F0 m pc ls (.int (nI 4) :: .int (nI a) :: rest)) := lv_ishr hx hb hdg (ni_top (pk_shrN ha _ 4 (by decide)) kk)
theorem ni_iinc (hx : p.tables.exec = Jvm.exec) (hb : c.code = cc) {i nL k : Nat} {a : Nat} {lv lv' : List (Nat × Value)} (hdg : decode cc pc = .ok (.iinc i 1, 3)) (h : lv_has ls nL lv) (hk : lv[k]? = some (i, .int (nI a))) (hn : i < nL) (hl : (i, Value.int (nI (a + 1))) :: lv.filter (fun q => !(q.1 == i) && !(q.1 + 1 == i && q.2.category == 2)) = lv') (kk : ∀ ls' : Array Slot, lv_has ls' nL lv' → W p l e R s m args below meth c H locs cells slots Q (F0 m (pc + 3) ls' rest)) : W p l e R s m args below meth c H locs cells slots Q (F0 m pc ls rest) := lv_iinc hx hb hdg h hk (nI_1 a) hn hl kk
theorem nb_ge (hx : p.tables.exec = Jvm.exec) (hb : c.code = cc) {a b : Nat} {off : Int} {tgt : Nat} (hA : a < 2 ^ 31) (hB : b < 2 ^ 31) (hdg : decode cc pc = .ok (.if_icmp .ge off, 3)) (ht : (pc : Int) + off = (tgt : Int)) (kt : b ≤ a → W p l e R s m args below meth c H locs cells slots Q (F0 m tgt ls rest)) (kf : a < b → W p l e R s m args below meth c H locs cells slots Q (F0 m (pc + 3) ls rest)) : W p l e R s m args below meth c H locs cells slots Q (F0 m pc ls (.int (nI b) :: .int (nI a) :: rest)) := lv_icmp_ge hx hb hdg ht (fun z => kt ((nI_leI hB hA).mp z)) (fun z => kf (Nat.not_le.mp (fun y => z ((nI_leI hB hA).mpr y))))
theorem nb_lt (hx : p.tables.exec = Jvm.exec) (hb : c.code = cc) {a b : Nat} {off : Int} {tgt : Nat} (hA : a < 2 ^ 31) (hB : b < 2 ^ 31) (hdg : decode cc pc = .ok (.if_icmp .lt off, 3)) (ht : (pc : Int) + off = (tgt : Int)) (kt : a < b → W p l e R s m args below meth c H locs cells slots Q (F0 m tgt ls rest)) (kf : b ≤ a → W p l e R s m args below meth c H locs cells slots Q (F0 m (pc + 3) ls rest)) : W p l e R s m args below meth c H locs cells slots Q (F0 m pc ls (.int (nI b) :: .int (nI a) :: rest)) := lv_icmp_lt hx hb hdg ht (fun z => kt ((nI_ltI hA hB).mp z)) (fun z => kf (Nat.not_lt.mp (fun y => z ((nI_ltI hA hB).mpr y))))
theorem nb_gt (hx : p.tables.exec = Jvm.exec) (hb : c.code = cc) {a b : Nat} {off : Int} {tgt : Nat} (hA : a < 2 ^ 31) (hB : b < 2 ^ 31) (hdg : decode cc pc = .ok (.if_icmp .gt off, 3)) (ht : (pc : Int) + off = (tgt : Int)) (kt : b < a → W p l e R s m args below meth c H locs cells slots Q (F0 m tgt ls rest)) (kf : a ≤ b → W p l e R s m args below meth c H locs cells slots Q (F0 m (pc + 3) ls rest)) : W p l e R s m args below meth c H locs cells slots Q (F0 m pc ls (.int (nI b) :: .int (nI a) :: rest)) := lv_icmp_gt hx hb hdg ht (fun z => kt ((nI_ltI hB hA).mp z)) (fun z => kf (Nat.not_lt.mp (fun y => z ((nI_ltI hB hA).mpr y))))
theorem nb_le (hx : p.tables.exec = Jvm.exec) (hb : c.code = cc) {a b : Nat} {off : Int} {tgt : Nat} (hA : a < 2 ^ 31) (hB : b < 2 ^ 31) (hdg : decode cc pc = .ok (.if_icmp .le off, 3)) (ht : (pc : Int) + off = (tgt : Int)) (kt : a ≤ b → W p l e R s m args below meth c H locs cells slots Q (F0 m tgt ls rest)) (kf : b < a → W p l e R s m args below meth c H locs cells slots Q (F0 m (pc + 3) ls rest)) : W p l e R s m args below meth c H locs cells slots Q (F0 m pc ls (.int (nI b) :: .int (nI a) :: rest)) := lv_icmp_le hx hb hdg ht (fun z => kt ((nI_leI hA hB).mp z)) (fun z => kf (Nat.not_le.mp (fun y => z ((nI_leI hA hB).mpr y))))
theorem nb_eq (hx : p.tables.exec = Jvm.exec) (hb : c.code = cc) {a b : Nat} {off : Int} {tgt : Nat} (hA : a < 2 ^ 31) (hB : b < 2 ^ 31) (hdg : decode cc pc = .ok (.if_icmp .eq off, 3)) (ht : (pc : Int) + off = (tgt : Int)) (kt : a = b → W p l e R s m args below meth c H locs cells slots Q (F0 m tgt ls rest)) (kf : a ≠ b → W p l e R s m args below meth c H locs cells slots Q (F0 m (pc + 3) ls rest)) : W p l e R s m args below meth c H locs cells slots Q (F0 m pc ls (.int (nI b) :: .int (nI a) :: rest)) := lv_icmp_eq hx hb hdg ht (fun z => kt ((nI_eq hA hB).mp z)) (fun z => kf (fun y => z ((nI_eq hA hB).mpr y)))
theorem nb_ne (hx : p.tables.exec = Jvm.exec) (hb : c.code = cc) {a b : Nat} {off : Int} {tgt : Nat} (hA : a < 2 ^ 31) (hB : b < 2 ^ 31) (hdg : decode cc pc = .ok (.if_icmp .ne off, 3)) (ht : (pc : Int) + off = (tgt : Int)) (kt : a ≠ b → W p l e R s m args below meth c H locs cells slots Q (F0 m tgt ls rest)) (kf : a = b → W p l e R s m args below meth c H locs cells slots Q (F0 m (pc + 3) ls rest)) : W p l e R s m args below meth c H locs cells slots Q (F0 m pc ls (.int (nI b) :: .int (nI a) :: rest)) := lv_icmp_ne hx hb hdg ht (fun z => kt (fun y => z ((nI_eq hA hB).mpr y))) (fun z => kf ((nI_eq hA hB).mp z))
theorem nz_eq (hx : p.tables.exec = Jvm.exec) (hb : c.code = cc) {a : Nat} {off : Int} {tgt : Nat} (hA : a < 2 ^ 31) (hdg : decode cc pc = .ok (.ifCond .eq off, 3)) (ht : (pc : Int) + off = (tgt : Int)) (kt : a = 0 → W p l e R s m args below meth c H locs cells slots Q (F0 m tgt ls rest)) (kf : a ≠ 0 → W p l e R s m args below meth c H locs cells slots Q (F0 m (pc + 3) ls rest)) : W p l e R s m args below meth c H locs cells slots Q (F0 m pc ls (.int (nI a) :: rest)) := lv_if_eq hx hb hdg ht (fun z => kt ((nI_eq hA (by decide)).mp (z.trans nI_0.symm))) (fun z => kf (fun y => z (by rw [y]; exact nI_0)))
theorem nz_ne (hx : p.tables.exec = Jvm.exec) (hb : c.code = cc) {a : Nat} {off : Int} {tgt : Nat} (hA : a < 2 ^ 31) (hdg : decode cc pc = .ok (.ifCond .ne off, 3)) (ht : (pc : Int) + off = (tgt : Int)) (kt : a ≠ 0 → W p l e R s m args below meth c H locs cells slots Q (F0 m tgt ls rest)) (kf : a = 0 → W p l e R s m args below meth c H locs cells slots Q (F0 m (pc + 3) ls rest)) : W p l e R s m args below meth c H locs cells slots Q (F0 m pc ls (.int (nI a) :: rest)) := lv_if_ne hx hb hdg ht (fun z => kt (fun y => z (by rw [y]; exact nI_0))) (fun z => kf ((nI_eq hA (by decide)).mp (z.trans nI_0.symm)))
theorem nz_le (hx : p.tables.exec = Jvm.exec) (hb : c.code = cc) {a : Nat} {off : Int} {tgt : Nat} (hA : a < 2 ^ 31) (hdg : decode cc pc = .ok (.ifCond .le off, 3)) (ht : (pc : Int) + off = (tgt : Int)) (kt : a = 0 → W p l e R s m args below meth c H locs cells slots Q (F0 m tgt ls rest)) (kf : 0 < a → W p l e R s m args below meth c H locs cells slots Q (F0 m (pc + 3) ls rest)) : W p l e R s m args below meth c H locs cells slots Q (F0 m pc ls (.int (nI a) :: rest)) := lv_if_le hx hb hdg ht (fun z => kt (by have := (nI_leI hA (b := 0) (by decide)).mp (by rw [nI_0]; exact z); omega)) (fun z => kf (Nat.pos_of_ne_zero (fun y => z (by rw [y, nI_0]; decide))))
end NR
/-- the room of level k -/
def rm_L (k : Nat) : Room := { frames := k, cells := 0, slots := 0, locals := 30 * k }
/-- what a method's walk knows of the machine -/
def CK (p : Program) (s : State) (m : MethodId) (args : Array Value) (c : Code) (cc : ByteArray) (nL : Nat) (dC : Nat → ClassId) (dI : Nat → Nat → Nat) (cA : ClassId) (A : Nat → Prop) (own : String) : Prop :=
  p.tables.exec = Jvm.exec ∧ c.code = cc ∧ c.maxLocals = nL ∧ s.vm.findClass own = some m.cls ∧ (∀ w ∈ tb_ws, w.before args s = true) ∧ va_K (dC, dI) classes [(cA, .int)] s ∧ ∀ q, s.heap.size ≤ q → A q
/-- the world now -/
def WK (s : State) (dC : Nat → ClassId) (dI : Nat → Nat → Nat) (A : Nat → Prop) (ws : va_W) (H : Heap) (locs : List Loc) : Prop := va_P (dC, dI) classes ws H ∧ va_D A ws ∧ va_S A s.heap H locs
def PK (dC : Nat → ClassId) (dI : Nat → Nat → Nat) (cA : ClassId) (sz : Nat) (ws : va_W) (U : State) : Prop := U.heap.size = sz ∧ va_P (dC, dI) classes ws U.heap ∧ va_K (dC, dI) classes [(cA, .int)] U ∧ va_D (fun _ => True) ws
def QK (dC : Nat → ClassId) (dI : Nat → Nat → Nat) (cA : ClassId) (A : Nat → Prop) (ws : va_W) (t : State) : Prop := va_P (dC, dI) classes ws t.heap ∧ va_K (dC, dI) classes [(cA, .int)] t ∧ va_D A ws
abbrev WD : Type := (Nat → Nat) → ClassId → va_W
/-- a contract that answers an int: from the world wd to the world wd2 u, with post -/
def MKi (lev : Nat) (y : MethodName) (b : ByteArray) (maxL : Nat) (ret : Option FieldType) (av : List Value) (wd : WD) {S : Type} (post : Int32 → S → Prop) (wd2 : S → WD) : Prop :=
  ∀ (l : Launch) (dC : Nat → ClassId) (dI : Nat → Nat → Nat) (q : Nat → Nat) (cA : ClassId) (sz : Nat), Met l y (Cond.code y b maxL ret :: tb_ws) (rm_L lev) (va_Pc (.ref (q 0) :: av) (PK dC dI cA sz (wd q cA))) (va_Qi post (fun u t => QK dC dI cA (va_A (wd q cA) sz) (wd2 u q cA) t) (va_A (wd q cA) sz)) 0 0 (va_A (wd q cA) sz)
def MKv (lev : Nat) (y : MethodName) (b : ByteArray) (maxL : Nat) (av : List Value) (wd : WD) {S : Type} (post : S → Prop) (wd2 : S → WD) : Prop :=
  ∀ (l : Launch) (dC : Nat → ClassId) (dI : Nat → Nat → Nat) (q : Nat → Nat) (cA : ClassId) (sz : Nat), Met l y (Cond.code y b maxL none :: tb_ws) (rm_L lev) (va_Pc (.ref (q 0) :: av) (PK dC dI cA sz (wd q cA))) (va_Qv post (fun u t => QK dC dI cA (va_A (wd q cA) sz) (wd2 u q cA) t) (va_A (wd q cA) sz)) 0 0 (va_A (wd q cA) sz)
theorem PK_blind (dC : Nat → ClassId) (dI : Nat → Nat → Nat) (cA : ClassId) (sz : Nat) (ws : va_W) (av : List Value) : FrameBlind (va_Pc av (PK dC dI cA sz ws)) := fun a U g mk q => by
  obtain ⟨q0, q1, qP, qK, qD⟩ := q
  exact ⟨q0, q1, qP, va_K.moved (u := U) (U := U.calling g mk a) (Vm.Alike.refl U.vm) qK, qD⟩
theorem WK.free {s : State} {dC : Nat → ClassId} {dI : Nat → Nat → Nat} {A : Nat → Prop} {ws : va_W} {H : Heap} {locs : List Loc} (h : WK s dC dI A ws H locs) (hA : ∀ q, s.heap.size ≤ q → A q) : ∀ q, va_A ws H.size q → A q := by
  intro q hq
  rcases hq with ⟨k, e, hk⟩ | hq
  · exact h.2.1.2 k (q, e) hk
  · exact hA q (Nat.le_trans h.2.2.1 hq)
theorem ok_i {y : MethodName} {cc : ByteArray} {maxL lev : Nat} {av : List Value} {wd : WD} {S : Type} {post : Int32 → S → Prop} {wd2 : S → WD} {own : String} (hy : plainName y.cls = true) (ho : y.cls = own) (hlen : ∀ q : Nat, (lg_sl (Value.ref q :: av)).length ≤ maxL)
    (body : ∀ (l : Launch) (dC : Nat → ClassId) (dI : Nat → Nat → Nat) (q : Nat → Nat) (cA : ClassId) (p : Program) (e : Env) (s : State) (m : MethodId) (args : Array Value) (below : List Frame) (meth : Method) (c : Code) (A : Nat → Prop) (ls : Array Slot) (Q : State → Prop), CK p s m args c cc maxL dC dI cA A own → (∀ (r : Int32) (u : S) (H : Heap) (locs : List Loc) (pc : Nat) (ls : Array Slot), decode cc pc = .ok (.ireturn, 1) → post r u → WK s dC dI A (wd2 u q cA) H locs → W p l e (rm_L lev) s m args below meth c H locs 0 0 Q (F0 m pc ls [.int r])) → WK s dC dI A (wd q cA) s.heap [] → lv_has ls maxL (lv_args 0 (.ref (q 0) :: av)) → W p l e (rm_L lev) s m args below meth c s.heap [] 0 0 Q (F0 m 0 ls [])) : MKi lev y cc maxL (some .int) av wd post wd2 := by
  intro l dC dI q cA sz
  refine Met.ofW (cc := cc) (maxL := maxL) (ret := (some .int)) hy rfl ?_
  intro p e s m args below meth c s₁ B hml hv
  obtain ⟨rfl, hsz, hP, hK, hD0⟩ := hv
  have hts := atoms_spec (ws := Cond.code y cc maxL (some .int) :: tb_ws) B.pre
  have hown : s.vm.findClass own = some m.cls := ho ▸ findClass_of_methodNamed B.named
  have hlocks := B.notSynchronized
  subst hsz
  have hD := hD0.self (sz := s.heap.size)
  generalize hAe : va_A (wd q cA) s.heap.size = A at hD ⊢
  have hA : ∀ q : Nat, s.heap.size ≤ q → A q := fun q h => by rw [← hAe]; exact Or.inr h
  have hl := lv_entry (.ref (q 0) :: av) (n := maxL) (hlen (q 0))
  rw [lg_entry_eq]
  refine body l dC dI q cA p e s m _ below meth c A _ _ ⟨B.exec, B.bytes, hml, hown, fun w hw => hts w (List.mem_cons_of_mem _ hw), hK, hA⟩ ?_ ⟨hP, hD, va_S.rf⟩ hl
  intro r u H locs pc ls hdg hp h
  exact W.iret (v := r) B.exec B.bytes B.returns (fun t ht hW => ⟨⟨r, u, rfl, hp, by rw [ht]; exact h.1, va_K.moved hW.alike hK, h.2.1⟩, h.2.2.F ht⟩) h.2.2.2.2 hdg
theorem ok_z {y : MethodName} {cc : ByteArray} {maxL lev : Nat} {av : List Value} {wd : WD} {S : Type} {post : Int32 → S → Prop} {wd2 : S → WD} {own : String} (hy : plainName y.cls = true) (ho : y.cls = own) (hlen : ∀ q : Nat, (lg_sl (Value.ref q :: av)).length ≤ maxL)
    (body : ∀ (l : Launch) (dC : Nat → ClassId) (dI : Nat → Nat → Nat) (q : Nat → Nat) (cA : ClassId) (p : Program) (e : Env) (s : State) (m : MethodId) (args : Array Value) (below : List Frame) (meth : Method) (c : Code) (A : Nat → Prop) (ls : Array Slot) (Q : State → Prop), CK p s m args c cc maxL dC dI cA A own → (∀ (r : Int32) (u : S) (H : Heap) (locs : List Loc) (pc : Nat) (ls : Array Slot), decode cc pc = .ok (.ireturn, 1) → narrow .boolean (.int r) = .int r → post r u → WK s dC dI A (wd2 u q cA) H locs → W p l e (rm_L lev) s m args below meth c H locs 0 0 Q (F0 m pc ls [.int r])) → WK s dC dI A (wd q cA) s.heap [] → lv_has ls maxL (lv_args 0 (.ref (q 0) :: av)) → W p l e (rm_L lev) s m args below meth c s.heap [] 0 0 Q (F0 m 0 ls [])) : MKi lev y cc maxL (some .boolean) av wd post wd2 := by
  intro l dC dI q cA sz
  refine Met.ofW (cc := cc) (maxL := maxL) (ret := (some .boolean)) hy rfl ?_
  intro p e s m args below meth c s₁ B hml hv
  obtain ⟨rfl, hsz, hP, hK, hD0⟩ := hv
  have hts := atoms_spec (ws := Cond.code y cc maxL (some .boolean) :: tb_ws) B.pre
  have hown : s.vm.findClass own = some m.cls := ho ▸ findClass_of_methodNamed B.named
  have hlocks := B.notSynchronized
  subst hsz
  have hD := hD0.self (sz := s.heap.size)
  generalize hAe : va_A (wd q cA) s.heap.size = A at hD ⊢
  have hA : ∀ q : Nat, s.heap.size ≤ q → A q := fun q h => by rw [← hAe]; exact Or.inr h
  have hl := lv_entry (.ref (q 0) :: av) (n := maxL) (hlen (q 0))
  rw [lg_entry_eq]
  refine body l dC dI q cA p e s m _ below meth c A _ _ ⟨B.exec, B.bytes, hml, hown, fun w hw => hts w (List.mem_cons_of_mem _ hw), hK, hA⟩ ?_ ⟨hP, hD, va_S.rf⟩ hl
  intro r u H locs pc ls hdg hn hp h
  exact W.zret (v := r) B.exec B.bytes B.returns hn (fun t ht hW => ⟨⟨r, u, rfl, hp, by rw [ht]; exact h.1, va_K.moved hW.alike hK, h.2.1⟩, h.2.2.F ht⟩) h.2.2.2.2 hdg
theorem ok_v {y : MethodName} {cc : ByteArray} {maxL lev : Nat} {av : List Value} {wd : WD} {S : Type} {post : S → Prop} {wd2 : S → WD} {own : String} (hy : plainName y.cls = true) (ho : y.cls = own) (hlen : ∀ q : Nat, (lg_sl (Value.ref q :: av)).length ≤ maxL)
    (body : ∀ (l : Launch) (dC : Nat → ClassId) (dI : Nat → Nat → Nat) (q : Nat → Nat) (cA : ClassId) (p : Program) (e : Env) (s : State) (m : MethodId) (args : Array Value) (below : List Frame) (meth : Method) (c : Code) (A : Nat → Prop) (ls : Array Slot) (Q : State → Prop), CK p s m args c cc maxL dC dI cA A own → (∀ (u : S) (H : Heap) (locs : List Loc) (pc : Nat) (ls : Array Slot), decode cc pc = .ok (.return_, 1) → post u → WK s dC dI A (wd2 u q cA) H locs → W p l e (rm_L lev) s m args below meth c H locs 0 0 Q (F0 m pc ls [])) → WK s dC dI A (wd q cA) s.heap [] → lv_has ls maxL (lv_args 0 (.ref (q 0) :: av)) → W p l e (rm_L lev) s m args below meth c s.heap [] 0 0 Q (F0 m 0 ls [])) : MKv lev y cc maxL av wd post wd2 := by
  intro l dC dI q cA sz
  refine Met.ofW (cc := cc) (maxL := maxL) (ret := none) hy rfl ?_
  intro p e s m args below meth c s₁ B hml hv
  obtain ⟨rfl, hsz, hP, hK, hD0⟩ := hv
  have hts := atoms_spec (ws := Cond.code y cc maxL none :: tb_ws) B.pre
  have hown : s.vm.findClass own = some m.cls := ho ▸ findClass_of_methodNamed B.named
  have hlocks := B.notSynchronized
  subst hsz
  have hD := hD0.self (sz := s.heap.size)
  generalize hAe : va_A (wd q cA) s.heap.size = A at hD ⊢
  have hA : ∀ q : Nat, s.heap.size ≤ q → A q := fun q h => by rw [← hAe]; exact Or.inr h
  have hl := lv_entry (.ref (q 0) :: av) (n := maxL) (hlen (q 0))
  rw [lg_entry_eq]
  refine body l dC dI q cA p e s m _ below meth c A _ _ ⟨B.exec, B.bytes, hml, hown, fun w hw => hts w (List.mem_cons_of_mem _ hw), hK, hA⟩ ?_ ⟨hP, hD, va_S.rf⟩ hl
  intro u H locs pc ls hdg hp h
  exact W.vret B.exec B.bytes B.returns (fun t ht hW => ⟨⟨u, rfl, hp, by rw [ht]; exact h.1, va_K.moved hW.alike hK, h.2.1⟩, h.2.2.F ht⟩) h.2.2.2.2 hdg
section CR
variable {p : Program} {l : Launch} {e : Env} {R : Room} {s : State} {m : MethodId} {args : Array Value} {below : List Frame} {meth : Method} {c : Code} {H : Heap} {locs : List Loc} {cells slots : Nat} {Q : State → Prop}
variable {cc : ByteArray} {pc : Nat} {ls : Array Slot} {rest : List Value}
variable {dC : Nat → ClassId} {dI : Nat → Nat → Nat} {cA : ClassId} {A : Nat → Prop} {own : String} {nL : Nat} {q : Nat → Nat}
theorem ck_i {lev maxL idx n ci : Nat} {y : MethodName} {b : ByteArray} {ret : Option FieldType} {av st : List Value} {wd : WD} {S : Type} {post : Int32 → S → Prop} {wd2 : S → WD} {C0 : vw_C} {fs : List Value} {lv : List (Nat × Value)} (C : CK p s m args c cc nL dC dI cA A own) (h : WK s dC dI A (wd q cA) H locs) (hM : MKi lev y b maxL ret av wd post wd2) (hci : classes[ci]? = some C0) (h0 : (wd q cA)[0]? = some (q 0, .inr (ci, fs))) (hg : GoodIn tb_ws (wsV own idx C0.1 y (Cond.code y b maxL ret :: tb_ws)))
    (hd : y.cls = C0.1 ∧ y.cls ≠ "java/lang/invoke/MethodHandle" ∧ y.cls ≠ "java/lang/invoke/VarHandle" ∧ (parseMethodDescriptor y.desc).map (fun d => d.parameters.length) = some n) (hR : lev + 1 ≤ R.frames ∧ 8 + (maxL + 11) + 30 * lev ≤ R.locals) (hn : av.length = n) (hl : lv_has ls nL lv) (hst : st = av.reverse ++ .ref (q 0) :: rest) (hrm : (rest.map fun v => v.category).sum ≤ 8) (hf : cells ≤ R.cells ∧ slots ≤ R.slots) (hdg : decode cc pc = .ok (.invokevirtual idx, 3))
    (kk : ∀ (r : Int32) (u : S) (H1 : Heap) (locs1 : List Loc), post r u → WK s dC dI A (wd2 u q cA) H1 locs1 → W p l e R s m args below meth c H1 locs1 cells slots Q (F0 m (pc + 3) ls (.int r :: rest))) : W p l e R s m args below meth c H locs cells slots Q (F0 m pc ls st) := by
  obtain ⟨hx, hb, hml, hown, hts, hK, hA⟩ := C
  have hF := h.free hA
  exact va_calli (va_runV (As := av) (rest := rest) ⟨hx, hb, hml, hown, hts⟩ (hM l dC dI q cA H.size) (cwV n hts hg rfl rfl rfl hd ⟨hR.1, hR.2⟩) ⟨PK_blind _ _ _ _ _ _, va_recv hK h.1 hci h0, fun U hU hW => ⟨rfl, by rw [hU], by rw [hU]; exact h.1, va_K.moved hW.alike hK, h.2.1.weaken (fun _ _ _ _ => trivial)⟩⟩ rfl hn hl.1 hst (lv_room hrm) hdg ⟨hf.1, hf.2⟩) h.2.2 (fun q _ hq => hF q hq) hF (fun r u t H1 locs1 ht hvm hp hB hz1 hk1 hS => kk r u H1 locs1 hp ⟨by rw [← ht]; exact hB.1, hB.2.2.weaken (fun _ q _ hq => hF q.1 hq), hS⟩)
theorem ck_v {lev maxL idx n ci : Nat} {y : MethodName} {b : ByteArray} {av st : List Value} {wd : WD} {S : Type} {post : S → Prop} {wd2 : S → WD} {C0 : vw_C} {fs : List Value} {lv : List (Nat × Value)} (C : CK p s m args c cc nL dC dI cA A own) (h : WK s dC dI A (wd q cA) H locs) (hM : MKv lev y b maxL av wd post wd2) (hci : classes[ci]? = some C0) (h0 : (wd q cA)[0]? = some (q 0, .inr (ci, fs))) (hg : GoodIn tb_ws (wsV own idx C0.1 y (Cond.code y b maxL none :: tb_ws)))
    (hd : y.cls = C0.1 ∧ y.cls ≠ "java/lang/invoke/MethodHandle" ∧ y.cls ≠ "java/lang/invoke/VarHandle" ∧ (parseMethodDescriptor y.desc).map (fun d => d.parameters.length) = some n) (hR : lev + 1 ≤ R.frames ∧ 8 + (maxL + 11) + 30 * lev ≤ R.locals) (hn : av.length = n) (hl : lv_has ls nL lv) (hst : st = av.reverse ++ .ref (q 0) :: rest) (hrm : (rest.map fun v => v.category).sum ≤ 8) (hf : cells ≤ R.cells ∧ slots ≤ R.slots) (hdg : decode cc pc = .ok (.invokevirtual idx, 3))
    (kk : ∀ (u : S) (H1 : Heap) (locs1 : List Loc), post u → WK s dC dI A (wd2 u q cA) H1 locs1 → W p l e R s m args below meth c H1 locs1 cells slots Q (F0 m (pc + 3) ls rest)) : W p l e R s m args below meth c H locs cells slots Q (F0 m pc ls st) := by
  obtain ⟨hx, hb, hml, hown, hts, hK, hA⟩ := C
  have hF := h.free hA
  exact va_callv (va_runV (As := av) (rest := rest) ⟨hx, hb, hml, hown, hts⟩ (hM l dC dI q cA H.size) (cwV n hts hg rfl rfl rfl hd ⟨hR.1, hR.2⟩) ⟨PK_blind _ _ _ _ _ _, va_recv hK h.1 hci h0, fun U hU hW => ⟨rfl, by rw [hU], by rw [hU]; exact h.1, va_K.moved hW.alike hK, h.2.1.weaken (fun _ _ _ _ => trivial)⟩⟩ rfl hn hl.1 hst (lv_room hrm) hdg ⟨hf.1, hf.2⟩) h.2.2 (fun q _ hq => hF q hq) hF (fun u t H1 locs1 ht hvm hp hB hz1 hk1 hS => kk u H1 locs1 hp ⟨by rw [← ht]; exact hB.1, hB.2.2.weaken (fun _ q _ hq => hF q.1 hq), hS⟩)
end CR
/-- the class: one object, six arrays -/
abbrev XW (mv nv : Int32) (fa fb fr fc fR fD : Nat → Int32) : WD := fun q cA => [(q 0, .inr (0, [.int mv, .ref (q 1), .int nv, .ref (q 2), .ref (q 3), .ref (q 4), .ref (q 5), .ref (q 6)])), (q 1, .inl (cA, 10, .inl fa)), (q 2, .inl (cA, 14, .inl fb)), (q 3, .inl (cA, 3, .inl fr)), (q 4, .inl (cA, 3, .inl fc)), (q 5, .inl (cA, 60, .inl fR)), (q 6, .inl (cA, 84, .inl fD))]
/-- the reference: one object, four arrays -/
abbrev YW (mv nv : Int32) (fa fb ft fo : Nat → Int32) : WD := fun q cA => [(q 0, .inr (1, [.ref (q 1), .ref (q 2), .int mv, .int nv, .ref (q 3), .ref (q 4)])), (q 1, .inl (cA, 10, .inl fa)), (q 2, .inl (cA, 14, .inl fb)), (q 3, .inl (cA, 165, .inl ft)), (q 4, .inl (cA, 225, .inl fo))]
section WR
variable {p : Program} {l : Launch} {e : Env} {R : Room} {s : State} {m : MethodId} {args : Array Value} {below : List Frame} {meth : Method} {c : Code} {H : Heap} {locs : List Loc} {cells slots : Nat} {Q : State → Prop}
variable {cc : ByteArray} {pc : Nat} {ls : Array Slot} {rest : List Value}
variable {dC : Nat → ClassId} {dI : Nat → Nat → Nat} {cA : ClassId} {A : Nat → Prop} {nL : Nat} {q : Nat → Nat}
theorem gX_m {mv nv : Int32} {fa fb fr fc fR fD : Nat → Int32} (C : CK p s m args c cc nL dC dI cA A R_X) (h : WK s dC dI A (XW mv nv fa fb fr fc fR fD q cA) H locs) (hdg : decode cc pc = .ok (.getfield 50, 3)) (kk : W p l e R s m args below meth c H locs cells slots Q (F0 m (pc + 3) ls (.int mv :: rest))) : W p l e R s m args below meth c H locs cells slots Q (F0 m pc ls (.ref (q 0) :: rest)) := va_get (D := (dC, dI)) (ci := 0) (v := .int mv) (C := R_X) (T := F_X) (N := 8) C.1 C.2.1 C.2.2.2.2.1 i_X C.2.2.2.1 C.2.2.2.2.2.1 h.1 0 rfl rfl 0 (by decide) (C.2.2.2.2.1 _ tf_X_m) (fun _ h9 => h9) rfl hdg kk
theorem pX_m {mv nv : Int32} {fa fb fr fc fR fD : Nat → Int32} (C : CK p s m args c cc nL dC dI cA A R_X) (h : WK s dC dI A (XW mv nv fa fb fr fc fR fD q cA) H locs) {x : Int32} (hdg : decode cc pc = .ok (.putfield 50, 3)) (kk : ∀ (H1 : Heap) (locs1 : List Loc), WK s dC dI A (XW x nv fa fb fr fc fR fD q cA) H1 locs1 → W p l e R s m args below meth c H1 locs1 cells slots Q (F0 m (pc + 3) ls rest)) : W p l e R s m args below meth c H locs cells slots Q (F0 m pc ls (.int x :: .ref (q 0) :: rest)) := va_put (D := (dC, dI)) (ci := 0) (v := .int x) (ty := .int) (C := R_X) (T := F_X) (N := 8) C.1 C.2.1 C.2.2.2.2.1 i_X t_X t_X_ok n_X C.2.2.2.1 C.2.2.2.2.2.1 h.1 h.2.1 h.2.2 0 rfl rfl 0 (by decide) (C.2.2.2.2.1 _ tf_X_m) (fun _ h9 => h9) rfl (by decide +kernel) rfl rfl (Nat.le_of_ble_eq_true rfl) hdg (fun H1 locs1 hP hD hS => kk H1 locs1 ⟨hP, hD, hS⟩)
theorem gX_a {mv nv : Int32} {fa fb fr fc fR fD : Nat → Int32} (C : CK p s m args c cc nL dC dI cA A R_X) (h : WK s dC dI A (XW mv nv fa fb fr fc fR fD q cA) H locs) (hdg : decode cc pc = .ok (.getfield 7, 3)) (kk : W p l e R s m args below meth c H locs cells slots Q (F0 m (pc + 3) ls (.ref (q 1) :: rest))) : W p l e R s m args below meth c H locs cells slots Q (F0 m pc ls (.ref (q 0) :: rest)) := va_get (D := (dC, dI)) (ci := 0) (v := .ref (q 1)) (C := R_X) (T := F_X) (N := 8) C.1 C.2.1 C.2.2.2.2.1 i_X C.2.2.2.1 C.2.2.2.2.2.1 h.1 0 rfl rfl 1 (by decide) (C.2.2.2.2.1 _ tf_X_a) (fun _ h9 => h9) rfl hdg kk
theorem lX_a {mv nv : Int32} {fa fb fr fc fR fD : Nat → Int32} (C : CK p s m args c cc nL dC dI cA A R_X) (h : WK s dC dI A (XW mv nv fa fb fr fc fR fD q cA) H locs) (k : Nat) (hk : k < 10) (hdg : decode cc pc = .ok (.iaload, 1)) (kk : W p l e R s m args below meth c H locs cells slots Q (F0 m (pc + 1) ls (.int (fa k) :: rest))) : W p l e R s m args below meth c H locs cells slots Q (F0 m pc ls (.int (nI k) :: .ref (q 1) :: rest)) := va_iald C.1 C.2.1 C.2.2.2.2.2.1 h.1 1 0 rfl rfl (vp_in_nI hk (by decide)) hdg (by rw [nI_clamp (by omega)]; exact kk)
theorem sX_a {mv nv : Int32} {fa fb fr fc fR fD : Nat → Int32} (C : CK p s m args c cc nL dC dI cA A R_X) (h : WK s dC dI A (XW mv nv fa fb fr fc fR fD q cA) H locs) (k : Nat) (hk : k < 10) {x : Int32} (hdg : decode cc pc = .ok (.iastore, 1)) (kk : ∀ (H1 : Heap) (locs1 : List Loc), WK s dC dI A (XW mv nv (upd fa k x) fb fr fc fR fD q cA) H1 locs1 → W p l e R s m args below meth c H1 locs1 cells slots Q (F0 m (pc + 1) ls rest)) : W p l e R s m args below meth c H locs cells slots Q (F0 m pc ls (.int x :: .int (nI k) :: .ref (q 1) :: rest)) := va_iast C.1 C.2.1 C.2.2.2.2.2.1 h.1 h.2.1 h.2.2 1 0 rfl rfl (vp_in_nI hk (by decide)) hdg (by rw [nI_clamp (by omega)]; exact fun H1 locs1 hP hD hS => kk H1 locs1 ⟨hP, hD, hS⟩)
theorem gX_n {mv nv : Int32} {fa fb fr fc fR fD : Nat → Int32} (C : CK p s m args c cc nL dC dI cA A R_X) (h : WK s dC dI A (XW mv nv fa fb fr fc fR fD q cA) H locs) (hdg : decode cc pc = .ok (.getfield 28, 3)) (kk : W p l e R s m args below meth c H locs cells slots Q (F0 m (pc + 3) ls (.int nv :: rest))) : W p l e R s m args below meth c H locs cells slots Q (F0 m pc ls (.ref (q 0) :: rest)) := va_get (D := (dC, dI)) (ci := 0) (v := .int nv) (C := R_X) (T := F_X) (N := 8) C.1 C.2.1 C.2.2.2.2.1 i_X C.2.2.2.1 C.2.2.2.2.2.1 h.1 0 rfl rfl 2 (by decide) (C.2.2.2.2.1 _ tf_X_n) (fun _ h9 => h9) rfl hdg kk
theorem pX_n {mv nv : Int32} {fa fb fr fc fR fD : Nat → Int32} (C : CK p s m args c cc nL dC dI cA A R_X) (h : WK s dC dI A (XW mv nv fa fb fr fc fR fD q cA) H locs) {x : Int32} (hdg : decode cc pc = .ok (.putfield 28, 3)) (kk : ∀ (H1 : Heap) (locs1 : List Loc), WK s dC dI A (XW mv x fa fb fr fc fR fD q cA) H1 locs1 → W p l e R s m args below meth c H1 locs1 cells slots Q (F0 m (pc + 3) ls rest)) : W p l e R s m args below meth c H locs cells slots Q (F0 m pc ls (.int x :: .ref (q 0) :: rest)) := va_put (D := (dC, dI)) (ci := 0) (v := .int x) (ty := .int) (C := R_X) (T := F_X) (N := 8) C.1 C.2.1 C.2.2.2.2.1 i_X t_X t_X_ok n_X C.2.2.2.1 C.2.2.2.2.2.1 h.1 h.2.1 h.2.2 0 rfl rfl 2 (by decide) (C.2.2.2.2.1 _ tf_X_n) (fun _ h9 => h9) rfl (by decide +kernel) rfl rfl (Nat.le_of_ble_eq_true rfl) hdg (fun H1 locs1 hP hD hS => kk H1 locs1 ⟨hP, hD, hS⟩)
theorem gX_b {mv nv : Int32} {fa fb fr fc fR fD : Nat → Int32} (C : CK p s m args c cc nL dC dI cA A R_X) (h : WK s dC dI A (XW mv nv fa fb fr fc fR fD q cA) H locs) (hdg : decode cc pc = .ok (.getfield 13, 3)) (kk : W p l e R s m args below meth c H locs cells slots Q (F0 m (pc + 3) ls (.ref (q 2) :: rest))) : W p l e R s m args below meth c H locs cells slots Q (F0 m pc ls (.ref (q 0) :: rest)) := va_get (D := (dC, dI)) (ci := 0) (v := .ref (q 2)) (C := R_X) (T := F_X) (N := 8) C.1 C.2.1 C.2.2.2.2.1 i_X C.2.2.2.1 C.2.2.2.2.2.1 h.1 0 rfl rfl 3 (by decide) (C.2.2.2.2.1 _ tf_X_b) (fun _ h9 => h9) rfl hdg kk
theorem lX_b {mv nv : Int32} {fa fb fr fc fR fD : Nat → Int32} (C : CK p s m args c cc nL dC dI cA A R_X) (h : WK s dC dI A (XW mv nv fa fb fr fc fR fD q cA) H locs) (k : Nat) (hk : k < 14) (hdg : decode cc pc = .ok (.iaload, 1)) (kk : W p l e R s m args below meth c H locs cells slots Q (F0 m (pc + 1) ls (.int (fb k) :: rest))) : W p l e R s m args below meth c H locs cells slots Q (F0 m pc ls (.int (nI k) :: .ref (q 2) :: rest)) := va_iald C.1 C.2.1 C.2.2.2.2.2.1 h.1 2 0 rfl rfl (vp_in_nI hk (by decide)) hdg (by rw [nI_clamp (by omega)]; exact kk)
theorem sX_b {mv nv : Int32} {fa fb fr fc fR fD : Nat → Int32} (C : CK p s m args c cc nL dC dI cA A R_X) (h : WK s dC dI A (XW mv nv fa fb fr fc fR fD q cA) H locs) (k : Nat) (hk : k < 14) {x : Int32} (hdg : decode cc pc = .ok (.iastore, 1)) (kk : ∀ (H1 : Heap) (locs1 : List Loc), WK s dC dI A (XW mv nv fa (upd fb k x) fr fc fR fD q cA) H1 locs1 → W p l e R s m args below meth c H1 locs1 cells slots Q (F0 m (pc + 1) ls rest)) : W p l e R s m args below meth c H locs cells slots Q (F0 m pc ls (.int x :: .int (nI k) :: .ref (q 2) :: rest)) := va_iast C.1 C.2.1 C.2.2.2.2.2.1 h.1 h.2.1 h.2.2 2 0 rfl rfl (vp_in_nI hk (by decide)) hdg (by rw [nI_clamp (by omega)]; exact fun H1 locs1 hP hD hS => kk H1 locs1 ⟨hP, hD, hS⟩)
theorem gX_rows {mv nv : Int32} {fa fb fr fc fR fD : Nat → Int32} (C : CK p s m args c cc nL dC dI cA A R_X) (h : WK s dC dI A (XW mv nv fa fb fr fc fR fD q cA) H locs) (hdg : decode cc pc = .ok (.getfield 16, 3)) (kk : W p l e R s m args below meth c H locs cells slots Q (F0 m (pc + 3) ls (.ref (q 3) :: rest))) : W p l e R s m args below meth c H locs cells slots Q (F0 m pc ls (.ref (q 0) :: rest)) := va_get (D := (dC, dI)) (ci := 0) (v := .ref (q 3)) (C := R_X) (T := F_X) (N := 8) C.1 C.2.1 C.2.2.2.2.1 i_X C.2.2.2.1 C.2.2.2.2.2.1 h.1 0 rfl rfl 4 (by decide) (C.2.2.2.2.1 _ tf_X_rows) (fun _ h9 => h9) rfl hdg kk
theorem lX_rows {mv nv : Int32} {fa fb fr fc fR fD : Nat → Int32} (C : CK p s m args c cc nL dC dI cA A R_X) (h : WK s dC dI A (XW mv nv fa fb fr fc fR fD q cA) H locs) (k : Nat) (hk : k < 3) (hdg : decode cc pc = .ok (.iaload, 1)) (kk : W p l e R s m args below meth c H locs cells slots Q (F0 m (pc + 1) ls (.int (fr k) :: rest))) : W p l e R s m args below meth c H locs cells slots Q (F0 m pc ls (.int (nI k) :: .ref (q 3) :: rest)) := va_iald C.1 C.2.1 C.2.2.2.2.2.1 h.1 3 0 rfl rfl (vp_in_nI hk (by decide)) hdg (by rw [nI_clamp (by omega)]; exact kk)
theorem sX_rows {mv nv : Int32} {fa fb fr fc fR fD : Nat → Int32} (C : CK p s m args c cc nL dC dI cA A R_X) (h : WK s dC dI A (XW mv nv fa fb fr fc fR fD q cA) H locs) (k : Nat) (hk : k < 3) {x : Int32} (hdg : decode cc pc = .ok (.iastore, 1)) (kk : ∀ (H1 : Heap) (locs1 : List Loc), WK s dC dI A (XW mv nv fa fb (upd fr k x) fc fR fD q cA) H1 locs1 → W p l e R s m args below meth c H1 locs1 cells slots Q (F0 m (pc + 1) ls rest)) : W p l e R s m args below meth c H locs cells slots Q (F0 m pc ls (.int x :: .int (nI k) :: .ref (q 3) :: rest)) := va_iast C.1 C.2.1 C.2.2.2.2.2.1 h.1 h.2.1 h.2.2 3 0 rfl rfl (vp_in_nI hk (by decide)) hdg (by rw [nI_clamp (by omega)]; exact fun H1 locs1 hP hD hS => kk H1 locs1 ⟨hP, hD, hS⟩)
theorem gX_columns {mv nv : Int32} {fa fb fr fc fR fD : Nat → Int32} (C : CK p s m args c cc nL dC dI cA A R_X) (h : WK s dC dI A (XW mv nv fa fb fr fc fR fD q cA) H locs) (hdg : decode cc pc = .ok (.getfield 19, 3)) (kk : W p l e R s m args below meth c H locs cells slots Q (F0 m (pc + 3) ls (.ref (q 4) :: rest))) : W p l e R s m args below meth c H locs cells slots Q (F0 m pc ls (.ref (q 0) :: rest)) := va_get (D := (dC, dI)) (ci := 0) (v := .ref (q 4)) (C := R_X) (T := F_X) (N := 8) C.1 C.2.1 C.2.2.2.2.1 i_X C.2.2.2.1 C.2.2.2.2.2.1 h.1 0 rfl rfl 5 (by decide) (C.2.2.2.2.1 _ tf_X_columns) (fun _ h9 => h9) rfl hdg kk
theorem lX_columns {mv nv : Int32} {fa fb fr fc fR fD : Nat → Int32} (C : CK p s m args c cc nL dC dI cA A R_X) (h : WK s dC dI A (XW mv nv fa fb fr fc fR fD q cA) H locs) (k : Nat) (hk : k < 3) (hdg : decode cc pc = .ok (.iaload, 1)) (kk : W p l e R s m args below meth c H locs cells slots Q (F0 m (pc + 1) ls (.int (fc k) :: rest))) : W p l e R s m args below meth c H locs cells slots Q (F0 m pc ls (.int (nI k) :: .ref (q 4) :: rest)) := va_iald C.1 C.2.1 C.2.2.2.2.2.1 h.1 4 0 rfl rfl (vp_in_nI hk (by decide)) hdg (by rw [nI_clamp (by omega)]; exact kk)
theorem sX_columns {mv nv : Int32} {fa fb fr fc fR fD : Nat → Int32} (C : CK p s m args c cc nL dC dI cA A R_X) (h : WK s dC dI A (XW mv nv fa fb fr fc fR fD q cA) H locs) (k : Nat) (hk : k < 3) {x : Int32} (hdg : decode cc pc = .ok (.iastore, 1)) (kk : ∀ (H1 : Heap) (locs1 : List Loc), WK s dC dI A (XW mv nv fa fb fr (upd fc k x) fR fD q cA) H1 locs1 → W p l e R s m args below meth c H1 locs1 cells slots Q (F0 m (pc + 1) ls rest)) : W p l e R s m args below meth c H locs cells slots Q (F0 m pc ls (.int x :: .int (nI k) :: .ref (q 4) :: rest)) := va_iast C.1 C.2.1 C.2.2.2.2.2.1 h.1 h.2.1 h.2.2 4 0 rfl rfl (vp_in_nI hk (by decide)) hdg (by rw [nI_clamp (by omega)]; exact fun H1 locs1 hP hD hS => kk H1 locs1 ⟨hP, hD, hS⟩)
theorem gX_right {mv nv : Int32} {fa fb fr fc fR fD : Nat → Int32} (C : CK p s m args c cc nL dC dI cA A R_X) (h : WK s dC dI A (XW mv nv fa fb fr fc fR fD q cA) H locs) (hdg : decode cc pc = .ok (.getfield 22, 3)) (kk : W p l e R s m args below meth c H locs cells slots Q (F0 m (pc + 3) ls (.ref (q 5) :: rest))) : W p l e R s m args below meth c H locs cells slots Q (F0 m pc ls (.ref (q 0) :: rest)) := va_get (D := (dC, dI)) (ci := 0) (v := .ref (q 5)) (C := R_X) (T := F_X) (N := 8) C.1 C.2.1 C.2.2.2.2.1 i_X C.2.2.2.1 C.2.2.2.2.2.1 h.1 0 rfl rfl 6 (by decide) (C.2.2.2.2.1 _ tf_X_right) (fun _ h9 => h9) rfl hdg kk
theorem lX_right {mv nv : Int32} {fa fb fr fc fR fD : Nat → Int32} (C : CK p s m args c cc nL dC dI cA A R_X) (h : WK s dC dI A (XW mv nv fa fb fr fc fR fD q cA) H locs) (k : Nat) (hk : k < 60) (hdg : decode cc pc = .ok (.iaload, 1)) (kk : W p l e R s m args below meth c H locs cells slots Q (F0 m (pc + 1) ls (.int (fR k) :: rest))) : W p l e R s m args below meth c H locs cells slots Q (F0 m pc ls (.int (nI k) :: .ref (q 5) :: rest)) := va_iald C.1 C.2.1 C.2.2.2.2.2.1 h.1 5 0 rfl rfl (vp_in_nI hk (by decide)) hdg (by rw [nI_clamp (by omega)]; exact kk)
theorem sX_right {mv nv : Int32} {fa fb fr fc fR fD : Nat → Int32} (C : CK p s m args c cc nL dC dI cA A R_X) (h : WK s dC dI A (XW mv nv fa fb fr fc fR fD q cA) H locs) (k : Nat) (hk : k < 60) {x : Int32} (hdg : decode cc pc = .ok (.iastore, 1)) (kk : ∀ (H1 : Heap) (locs1 : List Loc), WK s dC dI A (XW mv nv fa fb fr fc (upd fR k x) fD q cA) H1 locs1 → W p l e R s m args below meth c H1 locs1 cells slots Q (F0 m (pc + 1) ls rest)) : W p l e R s m args below meth c H locs cells slots Q (F0 m pc ls (.int x :: .int (nI k) :: .ref (q 5) :: rest)) := va_iast C.1 C.2.1 C.2.2.2.2.2.1 h.1 h.2.1 h.2.2 5 0 rfl rfl (vp_in_nI hk (by decide)) hdg (by rw [nI_clamp (by omega)]; exact fun H1 locs1 hP hD hS => kk H1 locs1 ⟨hP, hD, hS⟩)
theorem gX_down {mv nv : Int32} {fa fb fr fc fR fD : Nat → Int32} (C : CK p s m args c cc nL dC dI cA A R_X) (h : WK s dC dI A (XW mv nv fa fb fr fc fR fD q cA) H locs) (hdg : decode cc pc = .ok (.getfield 25, 3)) (kk : W p l e R s m args below meth c H locs cells slots Q (F0 m (pc + 3) ls (.ref (q 6) :: rest))) : W p l e R s m args below meth c H locs cells slots Q (F0 m pc ls (.ref (q 0) :: rest)) := va_get (D := (dC, dI)) (ci := 0) (v := .ref (q 6)) (C := R_X) (T := F_X) (N := 8) C.1 C.2.1 C.2.2.2.2.1 i_X C.2.2.2.1 C.2.2.2.2.2.1 h.1 0 rfl rfl 7 (by decide) (C.2.2.2.2.1 _ tf_X_down) (fun _ h9 => h9) rfl hdg kk
theorem lX_down {mv nv : Int32} {fa fb fr fc fR fD : Nat → Int32} (C : CK p s m args c cc nL dC dI cA A R_X) (h : WK s dC dI A (XW mv nv fa fb fr fc fR fD q cA) H locs) (k : Nat) (hk : k < 84) (hdg : decode cc pc = .ok (.iaload, 1)) (kk : W p l e R s m args below meth c H locs cells slots Q (F0 m (pc + 1) ls (.int (fD k) :: rest))) : W p l e R s m args below meth c H locs cells slots Q (F0 m pc ls (.int (nI k) :: .ref (q 6) :: rest)) := va_iald C.1 C.2.1 C.2.2.2.2.2.1 h.1 6 0 rfl rfl (vp_in_nI hk (by decide)) hdg (by rw [nI_clamp (by omega)]; exact kk)
theorem sX_down {mv nv : Int32} {fa fb fr fc fR fD : Nat → Int32} (C : CK p s m args c cc nL dC dI cA A R_X) (h : WK s dC dI A (XW mv nv fa fb fr fc fR fD q cA) H locs) (k : Nat) (hk : k < 84) {x : Int32} (hdg : decode cc pc = .ok (.iastore, 1)) (kk : ∀ (H1 : Heap) (locs1 : List Loc), WK s dC dI A (XW mv nv fa fb fr fc fR (upd fD k x) q cA) H1 locs1 → W p l e R s m args below meth c H1 locs1 cells slots Q (F0 m (pc + 1) ls rest)) : W p l e R s m args below meth c H locs cells slots Q (F0 m pc ls (.int x :: .int (nI k) :: .ref (q 6) :: rest)) := va_iast C.1 C.2.1 C.2.2.2.2.2.1 h.1 h.2.1 h.2.2 6 0 rfl rfl (vp_in_nI hk (by decide)) hdg (by rw [nI_clamp (by omega)]; exact fun H1 locs1 hP hD hS => kk H1 locs1 ⟨hP, hD, hS⟩)
theorem gY_a {mv nv : Int32} {fa fb ft fo : Nat → Int32} (C : CK p s m args c cc nL dC dI cA A R_Y) (h : WK s dC dI A (YW mv nv fa fb ft fo q cA) H locs) (hdg : decode cc pc = .ok (.getfield 7, 3)) (kk : W p l e R s m args below meth c H locs cells slots Q (F0 m (pc + 3) ls (.ref (q 1) :: rest))) : W p l e R s m args below meth c H locs cells slots Q (F0 m pc ls (.ref (q 0) :: rest)) := va_get (D := (dC, dI)) (ci := 1) (v := .ref (q 1)) (C := R_Y) (T := F_Y) (N := 6) C.1 C.2.1 C.2.2.2.2.1 i_Y C.2.2.2.1 C.2.2.2.2.2.1 h.1 0 rfl rfl 0 (by decide) (C.2.2.2.2.1 _ tf_Y_a) (fun _ h9 => h9) rfl hdg kk
theorem lY_a {mv nv : Int32} {fa fb ft fo : Nat → Int32} (C : CK p s m args c cc nL dC dI cA A R_Y) (h : WK s dC dI A (YW mv nv fa fb ft fo q cA) H locs) (k : Nat) (hk : k < 10) (hdg : decode cc pc = .ok (.iaload, 1)) (kk : W p l e R s m args below meth c H locs cells slots Q (F0 m (pc + 1) ls (.int (fa k) :: rest))) : W p l e R s m args below meth c H locs cells slots Q (F0 m pc ls (.int (nI k) :: .ref (q 1) :: rest)) := va_iald C.1 C.2.1 C.2.2.2.2.2.1 h.1 1 0 rfl rfl (vp_in_nI hk (by decide)) hdg (by rw [nI_clamp (by omega)]; exact kk)
theorem sY_a {mv nv : Int32} {fa fb ft fo : Nat → Int32} (C : CK p s m args c cc nL dC dI cA A R_Y) (h : WK s dC dI A (YW mv nv fa fb ft fo q cA) H locs) (k : Nat) (hk : k < 10) {x : Int32} (hdg : decode cc pc = .ok (.iastore, 1)) (kk : ∀ (H1 : Heap) (locs1 : List Loc), WK s dC dI A (YW mv nv (upd fa k x) fb ft fo q cA) H1 locs1 → W p l e R s m args below meth c H1 locs1 cells slots Q (F0 m (pc + 1) ls rest)) : W p l e R s m args below meth c H locs cells slots Q (F0 m pc ls (.int x :: .int (nI k) :: .ref (q 1) :: rest)) := va_iast C.1 C.2.1 C.2.2.2.2.2.1 h.1 h.2.1 h.2.2 1 0 rfl rfl (vp_in_nI hk (by decide)) hdg (by rw [nI_clamp (by omega)]; exact fun H1 locs1 hP hD hS => kk H1 locs1 ⟨hP, hD, hS⟩)
theorem gY_b {mv nv : Int32} {fa fb ft fo : Nat → Int32} (C : CK p s m args c cc nL dC dI cA A R_Y) (h : WK s dC dI A (YW mv nv fa fb ft fo q cA) H locs) (hdg : decode cc pc = .ok (.getfield 13, 3)) (kk : W p l e R s m args below meth c H locs cells slots Q (F0 m (pc + 3) ls (.ref (q 2) :: rest))) : W p l e R s m args below meth c H locs cells slots Q (F0 m pc ls (.ref (q 0) :: rest)) := va_get (D := (dC, dI)) (ci := 1) (v := .ref (q 2)) (C := R_Y) (T := F_Y) (N := 6) C.1 C.2.1 C.2.2.2.2.1 i_Y C.2.2.2.1 C.2.2.2.2.2.1 h.1 0 rfl rfl 1 (by decide) (C.2.2.2.2.1 _ tf_Y_b) (fun _ h9 => h9) rfl hdg kk
theorem lY_b {mv nv : Int32} {fa fb ft fo : Nat → Int32} (C : CK p s m args c cc nL dC dI cA A R_Y) (h : WK s dC dI A (YW mv nv fa fb ft fo q cA) H locs) (k : Nat) (hk : k < 14) (hdg : decode cc pc = .ok (.iaload, 1)) (kk : W p l e R s m args below meth c H locs cells slots Q (F0 m (pc + 1) ls (.int (fb k) :: rest))) : W p l e R s m args below meth c H locs cells slots Q (F0 m pc ls (.int (nI k) :: .ref (q 2) :: rest)) := va_iald C.1 C.2.1 C.2.2.2.2.2.1 h.1 2 0 rfl rfl (vp_in_nI hk (by decide)) hdg (by rw [nI_clamp (by omega)]; exact kk)
theorem sY_b {mv nv : Int32} {fa fb ft fo : Nat → Int32} (C : CK p s m args c cc nL dC dI cA A R_Y) (h : WK s dC dI A (YW mv nv fa fb ft fo q cA) H locs) (k : Nat) (hk : k < 14) {x : Int32} (hdg : decode cc pc = .ok (.iastore, 1)) (kk : ∀ (H1 : Heap) (locs1 : List Loc), WK s dC dI A (YW mv nv fa (upd fb k x) ft fo q cA) H1 locs1 → W p l e R s m args below meth c H1 locs1 cells slots Q (F0 m (pc + 1) ls rest)) : W p l e R s m args below meth c H locs cells slots Q (F0 m pc ls (.int x :: .int (nI k) :: .ref (q 2) :: rest)) := va_iast C.1 C.2.1 C.2.2.2.2.2.1 h.1 h.2.1 h.2.2 2 0 rfl rfl (vp_in_nI hk (by decide)) hdg (by rw [nI_clamp (by omega)]; exact fun H1 locs1 hP hD hS => kk H1 locs1 ⟨hP, hD, hS⟩)
theorem gY_m {mv nv : Int32} {fa fb ft fo : Nat → Int32} (C : CK p s m args c cc nL dC dI cA A R_Y) (h : WK s dC dI A (YW mv nv fa fb ft fo q cA) H locs) (hdg : decode cc pc = .ok (.getfield 26, 3)) (kk : W p l e R s m args below meth c H locs cells slots Q (F0 m (pc + 3) ls (.int mv :: rest))) : W p l e R s m args below meth c H locs cells slots Q (F0 m pc ls (.ref (q 0) :: rest)) := va_get (D := (dC, dI)) (ci := 1) (v := .int mv) (C := R_Y) (T := F_Y) (N := 6) C.1 C.2.1 C.2.2.2.2.1 i_Y C.2.2.2.1 C.2.2.2.2.2.1 h.1 0 rfl rfl 2 (by decide) (C.2.2.2.2.1 _ tf_Y_m) (fun _ h9 => h9) rfl hdg kk
theorem pY_m {mv nv : Int32} {fa fb ft fo : Nat → Int32} (C : CK p s m args c cc nL dC dI cA A R_Y) (h : WK s dC dI A (YW mv nv fa fb ft fo q cA) H locs) {x : Int32} (hdg : decode cc pc = .ok (.putfield 26, 3)) (kk : ∀ (H1 : Heap) (locs1 : List Loc), WK s dC dI A (YW x nv fa fb ft fo q cA) H1 locs1 → W p l e R s m args below meth c H1 locs1 cells slots Q (F0 m (pc + 3) ls rest)) : W p l e R s m args below meth c H locs cells slots Q (F0 m pc ls (.int x :: .ref (q 0) :: rest)) := va_put (D := (dC, dI)) (ci := 1) (v := .int x) (ty := .int) (C := R_Y) (T := F_Y) (N := 6) C.1 C.2.1 C.2.2.2.2.1 i_Y t_Y t_Y_ok n_Y C.2.2.2.1 C.2.2.2.2.2.1 h.1 h.2.1 h.2.2 0 rfl rfl 2 (by decide) (C.2.2.2.2.1 _ tf_Y_m) (fun _ h9 => h9) rfl (by decide +kernel) rfl rfl (Nat.le_of_ble_eq_true rfl) hdg (fun H1 locs1 hP hD hS => kk H1 locs1 ⟨hP, hD, hS⟩)
theorem gY_n {mv nv : Int32} {fa fb ft fo : Nat → Int32} (C : CK p s m args c cc nL dC dI cA A R_Y) (h : WK s dC dI A (YW mv nv fa fb ft fo q cA) H locs) (hdg : decode cc pc = .ok (.getfield 30, 3)) (kk : W p l e R s m args below meth c H locs cells slots Q (F0 m (pc + 3) ls (.int nv :: rest))) : W p l e R s m args below meth c H locs cells slots Q (F0 m pc ls (.ref (q 0) :: rest)) := va_get (D := (dC, dI)) (ci := 1) (v := .int nv) (C := R_Y) (T := F_Y) (N := 6) C.1 C.2.1 C.2.2.2.2.1 i_Y C.2.2.2.1 C.2.2.2.2.2.1 h.1 0 rfl rfl 3 (by decide) (C.2.2.2.2.1 _ tf_Y_n) (fun _ h9 => h9) rfl hdg kk
theorem pY_n {mv nv : Int32} {fa fb ft fo : Nat → Int32} (C : CK p s m args c cc nL dC dI cA A R_Y) (h : WK s dC dI A (YW mv nv fa fb ft fo q cA) H locs) {x : Int32} (hdg : decode cc pc = .ok (.putfield 30, 3)) (kk : ∀ (H1 : Heap) (locs1 : List Loc), WK s dC dI A (YW mv x fa fb ft fo q cA) H1 locs1 → W p l e R s m args below meth c H1 locs1 cells slots Q (F0 m (pc + 3) ls rest)) : W p l e R s m args below meth c H locs cells slots Q (F0 m pc ls (.int x :: .ref (q 0) :: rest)) := va_put (D := (dC, dI)) (ci := 1) (v := .int x) (ty := .int) (C := R_Y) (T := F_Y) (N := 6) C.1 C.2.1 C.2.2.2.2.1 i_Y t_Y t_Y_ok n_Y C.2.2.2.1 C.2.2.2.2.2.1 h.1 h.2.1 h.2.2 0 rfl rfl 3 (by decide) (C.2.2.2.2.1 _ tf_Y_n) (fun _ h9 => h9) rfl (by decide +kernel) rfl rfl (Nat.le_of_ble_eq_true rfl) hdg (fun H1 locs1 hP hD hS => kk H1 locs1 ⟨hP, hD, hS⟩)
theorem gY_table {mv nv : Int32} {fa fb ft fo : Nat → Int32} (C : CK p s m args c cc nL dC dI cA A R_Y) (h : WK s dC dI A (YW mv nv fa fb ft fo q cA) H locs) (hdg : decode cc pc = .ok (.getfield 16, 3)) (kk : W p l e R s m args below meth c H locs cells slots Q (F0 m (pc + 3) ls (.ref (q 3) :: rest))) : W p l e R s m args below meth c H locs cells slots Q (F0 m pc ls (.ref (q 0) :: rest)) := va_get (D := (dC, dI)) (ci := 1) (v := .ref (q 3)) (C := R_Y) (T := F_Y) (N := 6) C.1 C.2.1 C.2.2.2.2.1 i_Y C.2.2.2.1 C.2.2.2.2.2.1 h.1 0 rfl rfl 4 (by decide) (C.2.2.2.2.1 _ tf_Y_table) (fun _ h9 => h9) rfl hdg kk
theorem lY_table {mv nv : Int32} {fa fb ft fo : Nat → Int32} (C : CK p s m args c cc nL dC dI cA A R_Y) (h : WK s dC dI A (YW mv nv fa fb ft fo q cA) H locs) (k : Nat) (hk : k < 165) (hdg : decode cc pc = .ok (.iaload, 1)) (kk : W p l e R s m args below meth c H locs cells slots Q (F0 m (pc + 1) ls (.int (ft k) :: rest))) : W p l e R s m args below meth c H locs cells slots Q (F0 m pc ls (.int (nI k) :: .ref (q 3) :: rest)) := va_iald C.1 C.2.1 C.2.2.2.2.2.1 h.1 3 0 rfl rfl (vp_in_nI hk (by decide)) hdg (by rw [nI_clamp (by omega)]; exact kk)
theorem sY_table {mv nv : Int32} {fa fb ft fo : Nat → Int32} (C : CK p s m args c cc nL dC dI cA A R_Y) (h : WK s dC dI A (YW mv nv fa fb ft fo q cA) H locs) (k : Nat) (hk : k < 165) {x : Int32} (hdg : decode cc pc = .ok (.iastore, 1)) (kk : ∀ (H1 : Heap) (locs1 : List Loc), WK s dC dI A (YW mv nv fa fb (upd ft k x) fo q cA) H1 locs1 → W p l e R s m args below meth c H1 locs1 cells slots Q (F0 m (pc + 1) ls rest)) : W p l e R s m args below meth c H locs cells slots Q (F0 m pc ls (.int x :: .int (nI k) :: .ref (q 3) :: rest)) := va_iast C.1 C.2.1 C.2.2.2.2.2.1 h.1 h.2.1 h.2.2 3 0 rfl rfl (vp_in_nI hk (by decide)) hdg (by rw [nI_clamp (by omega)]; exact fun H1 locs1 hP hD hS => kk H1 locs1 ⟨hP, hD, hS⟩)
theorem gY_of {mv nv : Int32} {fa fb ft fo : Nat → Int32} (C : CK p s m args c cc nL dC dI cA A R_Y) (h : WK s dC dI A (YW mv nv fa fb ft fo q cA) H locs) (hdg : decode cc pc = .ok (.getfield 19, 3)) (kk : W p l e R s m args below meth c H locs cells slots Q (F0 m (pc + 3) ls (.ref (q 4) :: rest))) : W p l e R s m args below meth c H locs cells slots Q (F0 m pc ls (.ref (q 0) :: rest)) := va_get (D := (dC, dI)) (ci := 1) (v := .ref (q 4)) (C := R_Y) (T := F_Y) (N := 6) C.1 C.2.1 C.2.2.2.2.1 i_Y C.2.2.2.1 C.2.2.2.2.2.1 h.1 0 rfl rfl 5 (by decide) (C.2.2.2.2.1 _ tf_Y_of) (fun _ h9 => h9) rfl hdg kk
theorem lY_of {mv nv : Int32} {fa fb ft fo : Nat → Int32} (C : CK p s m args c cc nL dC dI cA A R_Y) (h : WK s dC dI A (YW mv nv fa fb ft fo q cA) H locs) (k : Nat) (hk : k < 225) (hdg : decode cc pc = .ok (.iaload, 1)) (kk : W p l e R s m args below meth c H locs cells slots Q (F0 m (pc + 1) ls (.int (fo k) :: rest))) : W p l e R s m args below meth c H locs cells slots Q (F0 m pc ls (.int (nI k) :: .ref (q 4) :: rest)) := va_iald C.1 C.2.1 C.2.2.2.2.2.1 h.1 4 0 rfl rfl (vp_in_nI hk (by decide)) hdg (by rw [nI_clamp (by omega)]; exact kk)
theorem sY_of {mv nv : Int32} {fa fb ft fo : Nat → Int32} (C : CK p s m args c cc nL dC dI cA A R_Y) (h : WK s dC dI A (YW mv nv fa fb ft fo q cA) H locs) (k : Nat) (hk : k < 225) {x : Int32} (hdg : decode cc pc = .ok (.iastore, 1)) (kk : ∀ (H1 : Heap) (locs1 : List Loc), WK s dC dI A (YW mv nv fa fb ft (upd fo k x) q cA) H1 locs1 → W p l e R s m args below meth c H1 locs1 cells slots Q (F0 m (pc + 1) ls rest)) : W p l e R s m args below meth c H locs cells slots Q (F0 m pc ls (.int x :: .int (nI k) :: .ref (q 4) :: rest)) := va_iast C.1 C.2.1 C.2.2.2.2.2.1 h.1 h.2.1 h.2.2 4 0 rfl rfl (vp_in_nI hk (by decide)) hdg (by rw [nI_clamp (by omega)]; exact fun H1 locs1 hP hD hS => kk H1 locs1 ⟨hP, hD, hS⟩)
end WR
end
section
/-! COMBING: what the arrays of the class hold, and one cell's step; plain -/
/-- the letters of a braid's rows and columns -/
def sw_lA (fa : Nat → Int32) (β i : Nat) : Int32 := if β = 1 then sw_sp fa i else fa i
def sw_lB (fb : Nat → Int32) (n β j : Nat) : Int32 := if β = 0 then fb j else if β = 1 then sw_sp fb j else fb (if j < n then j else j - n)
theorem sw_uu (f : Nat → Int32) (k : Nat) (x y : Int32) : upd (upd f k x) k y = upd f k y := by
  funext j
  unfold upd
  by_cases h : j = k
  · simp [h]
  · simp [h]
/-- the braid β is combed: M rows, N columns -/
def sw_cb (la lb : Nat → Int32) (β M N : Nat) (R D : Nat → Int32) : Prop := (∀ i, i < M → R (β * 20 + i) = sw_r la lb i N) ∧ ∀ j, j < N → D (β * 28 + j) = sw_v la lb M j
/-- other braids are as they were -/
def sw_kp (β : Nat) (R D R' D' : Nat → Int32) : Prop := (∀ k, (k < β * 20 ∨ β * 20 + 20 ≤ k) → R' k = R k) ∧ ∀ k, (k < β * 28 ∨ β * 28 + 28 ≤ k) → D' k = D k
theorem sw_kp_rf (β : Nat) (R D : Nat → Int32) : sw_kp β R D R D := ⟨fun _ _ => rfl, fun _ _ => rfl⟩
theorem sw_kp_tr {β : Nat} {R D R' D' R'' D'' : Nat → Int32} (h : sw_kp β R D R' D') (h' : sw_kp β R' D' R'' D'') : sw_kp β R D R'' D'' := ⟨fun k hk => (h'.1 k hk).trans (h.1 k hk), fun k hk => (h'.2 k hk).trans (h.2 k hk)⟩
theorem sw_kp_R {β i : Nat} {R D : Nat → Int32} (x : Int32) (hi : i < 20) : sw_kp β R D (upd R (β * 20 + i) x) D := ⟨fun k hk => pk_un (by omega), fun _ _ => rfl⟩
theorem sw_kp_D {β j : Nat} {R D : Nat → Int32} (x : Int32) (hj : j < 28) : sw_kp β R D R (upd D (β * 28 + j) x) := ⟨fun _ _ => rfl, fun k hk => pk_un (by omega)⟩
/-- what the cell does -/
def sw_ce (x y : Int32) (a b : Nat) (R D : Nat → Int32) : (Nat → Int32) × (Nat → Int32) := if x = y ∨ D b < R a then (upd R a (D b), upd D b (R a)) else (R, D)
theorem sw_ce_R (x y : Int32) (a b : Nat) (R D : Nat → Int32) : (sw_ce x y a b R D).1 a = (if x = y ∨ D b < R a then D b else R a) := by
  unfold sw_ce
  split
  · exact pk_us
  · rfl
theorem sw_ce_D (x y : Int32) (a b : Nat) (R D : Nat → Int32) : (sw_ce x y a b R D).2 b = (if x = y ∨ D b < R a then R a else D b) := by
  unfold sw_ce
  split
  · exact pk_us
  · rfl
theorem sw_ce_Rn {x y : Int32} {a b k : Nat} {R D : Nat → Int32} (h : k ≠ a) : (sw_ce x y a b R D).1 k = R k := by
  unfold sw_ce
  split
  · exact pk_un h
  · rfl
theorem sw_ce_Dn {x y : Int32} {a b k : Nat} {R D : Nat → Int32} (h : k ≠ b) : (sw_ce x y a b R D).2 k = D k := by
  unfold sw_ce
  split
  · exact pk_un h
  · rfl
/-- a row is on its way: j of its cells are done -/
def sw_mr (la lb : Nat → Int32) (β M N j : Nat) (R D R' D' : Nat → Int32) : Prop := (∀ i, i < M → R' (β * 20 + i) = sw_r la lb i N) ∧ R' (β * 20 + M) = sw_r la lb M j ∧ (∀ c, c < j → D' (β * 28 + c) = sw_v la lb (M + 1) c) ∧ (∀ c, j ≤ c → c < N → D' (β * 28 + c) = sw_v la lb M c) ∧ sw_kp β R D R' D'
theorem sw_mr_0 {la lb : Nat → Int32} {β M N : Nat} {R D : Nat → Int32} (h : sw_cb la lb β M N R D) (hM : M < 20) : sw_mr la lb β M N 0 R D (upd R (β * 20 + M) (-1 - nI M)) D :=
  ⟨fun i hi => (pk_un (by omega)).trans (h.1 i hi), pk_us, fun c hc => absurd hc (Nat.not_lt_zero c), fun c _ hc => h.2 c hc, sw_kp_R _ hM⟩
theorem sw_mr_s {la lb : Nat → Int32} {β M N j : Nat} {R D R' D' : Nat → Int32} (h : sw_mr la lb β M N j R D R' D') (hj : j < N) (hM : M < 20) (hN : N ≤ 28) : sw_mr la lb β M N (j + 1) R D (sw_ce (la M) (lb j) (β * 20 + M) (β * 28 + j) R' D').1 (sw_ce (la M) (lb j) (β * 20 + M) (β * 28 + j) R' D').2 := by
  obtain ⟨h1, h2, h3, h4, h5⟩ := h
  refine ⟨fun i hi => (sw_ce_Rn (by omega)).trans (h1 i hi), ?_, fun c hc => ?_, fun c h hc => (sw_ce_Dn (by omega)).trans (h4 c (by omega) hc), ⟨fun k hk => (sw_ce_Rn (by omega)).trans (h5.1 k hk), fun k hk => (sw_ce_Dn (by omega)).trans (h5.2 k hk)⟩⟩
  · rw [sw_ce_R, h2, h4 j (Nat.le_refl j) hj, sw_r_s]
  · by_cases q : c = j
    · subst q
      rw [sw_ce_D, h2, h4 c (Nat.le_refl c) hj, sw_v_s]
    · exact (sw_ce_Dn (by omega)).trans (h3 c (by omega))
theorem sw_mr_e {la lb : Nat → Int32} {β M N : Nat} {R D R' D' : Nat → Int32} (h : sw_mr la lb β M N N R D R' D') : sw_cb la lb β (M + 1) N R' D' ∧ sw_kp β R D R' D' := by
  obtain ⟨h1, h2, h3, h4, h5⟩ := h
  refine ⟨⟨fun i hi => ?_, h3⟩, h5⟩
  by_cases q : i = M
  · rw [q]; exact h2
  · exact h1 i (by omega)
/-- a column is on its way: i of its cells are done -/
def sw_mc (la lb : Nat → Int32) (β M N i : Nat) (R D R' D' : Nat → Int32) : Prop := (∀ c, c < N → D' (β * 28 + c) = sw_v la lb M c) ∧ D' (β * 28 + N) = sw_v la lb i N ∧ (∀ r, r < i → R' (β * 20 + r) = sw_r la lb r (N + 1)) ∧ (∀ r, i ≤ r → r < M → R' (β * 20 + r) = sw_r la lb r N) ∧ sw_kp β R D R' D'
theorem sw_mc_0 {la lb : Nat → Int32} {β M N : Nat} {R D : Nat → Int32} (h : sw_cb la lb β M N R D) (hN : N < 28) : sw_mc la lb β M N 0 R D R (upd D (β * 28 + N) (nI N)) :=
  ⟨fun i hi => (pk_un (by omega)).trans (h.2 i hi), pk_us, fun c hc => absurd hc (Nat.not_lt_zero c), fun c _ hc => h.1 c hc, sw_kp_D _ hN⟩
theorem sw_mc_s {la lb : Nat → Int32} {β M N i : Nat} {R D R' D' : Nat → Int32} (h : sw_mc la lb β M N i R D R' D') (hi : i < M) (hM : M ≤ 20) (hN : N < 28) : sw_mc la lb β M N (i + 1) R D (sw_ce (la i) (lb N) (β * 20 + i) (β * 28 + N) R' D').1 (sw_ce (la i) (lb N) (β * 20 + i) (β * 28 + N) R' D').2 := by
  obtain ⟨h1, h2, h3, h4, h5⟩ := h
  refine ⟨fun c hc => (sw_ce_Dn (by omega)).trans (h1 c hc), ?_, fun c hc => ?_, fun c h hc => (sw_ce_Rn (by omega)).trans (h4 c (by omega) hc), ⟨fun k hk => (sw_ce_Rn (by omega)).trans (h5.1 k hk), fun k hk => (sw_ce_Dn (by omega)).trans (h5.2 k hk)⟩⟩
  · rw [sw_ce_D, h2, h4 i (Nat.le_refl i) hi, sw_v_s]
  · by_cases q : c = i
    · subst q
      rw [sw_ce_R, h2, h4 c (Nat.le_refl c) hi, sw_r_s]
    · exact (sw_ce_Rn (by omega)).trans (h3 c (by omega))
theorem sw_mc_e {la lb : Nat → Int32} {β M N : Nat} {R D R' D' : Nat → Int32} (h : sw_mc la lb β M N M R D R' D') : sw_cb la lb β M (N + 1) R' D' ∧ sw_kp β R D R' D' := by
  obtain ⟨h1, h2, h3, h4, h5⟩ := h
  refine ⟨⟨h3, fun j hj => ?_⟩, h5⟩
  by_cases q : j = N
  · rw [q]; exact h2
  · exact h1 j (by omega)
theorem sw_cb_00 (la lb : Nat → Int32) (β : Nat) (R D : Nat → Int32) : sw_cb la lb β 0 0 R D := ⟨fun i hi => absurd hi (Nat.not_lt_zero i), fun i hi => absurd hi (Nat.not_lt_zero i)⟩
/-- other letters behind those that were met, other braids combed -/
theorem sw_cb_cg {la lb la' lb' : Nat → Int32} {β M N : Nat} {R D : Nat → Int32} (h : sw_cb la lb β M N R D) (ha : ∀ x, x < M → la x = la' x) (hb : ∀ c, c < N → lb c = lb' c) : sw_cb la' lb' β M N R D :=
  ⟨fun i hi => (h.1 i hi).trans ((sw_congr ha hb i (by omega)).2 hi N (Nat.le_refl N)), fun j hj => (h.2 j hj).trans ((sw_congr ha hb M (Nat.le_refl M)).1 j hj)⟩
theorem sw_cb_kp {la lb : Nat → Int32} {β γ M N : Nat} {R D R' D' : Nat → Int32} (h : sw_cb la lb β M N R D) (k : sw_kp γ R D R' D') (hn : β ≠ γ) (hM : M ≤ 20) (hN : N ≤ 28) : sw_cb la lb β M N R' D' := by
  refine ⟨fun i hi => (k.1 _ ?_).trans (h.1 i hi), fun j hj => (k.2 _ ?_).trans (h.2 j hj)⟩
  · rcases Nat.lt_or_gt_of_ne hn with q | q
    · left; have : (β + 1) * 20 ≤ γ * 20 := Nat.mul_le_mul_right 20 q
      omega
    · right; have : (γ + 1) * 20 ≤ β * 20 := Nat.mul_le_mul_right 20 q
      omega
  · rcases Nat.lt_or_gt_of_ne hn with q | q
    · left; have : (β + 1) * 28 ≤ γ * 28 := Nat.mul_le_mul_right 28 q
      omega
    · right; have : (γ + 1) * 28 ≤ β * 28 := Nat.mul_le_mul_right 28 q
      omega
/-- THE CLASS'S WORLD IS RIGHT: m letters of a, n of b; both braids combed -/
def sw_inv (m n : Nat) (fa fb fr fc R D : Nat → Int32) : Prop := m ≤ 10 ∧ n ≤ 14 ∧ fr 0 = nI m ∧ fr 1 = nI (2 * m) ∧ fc 0 = nI n ∧ fc 1 = nI (2 * n) ∧ sw_cb (sw_lA fa 0) (sw_lB fb n 0) 0 m n R D ∧ sw_cb (sw_lA fa 1) (sw_lB fb n 1) 1 (2 * m) (2 * n) R D
/-- no letter is the blank -/
def sw_let (m n : Nat) (fa fb : Nat → Int32) : Prop := (∀ i, i < m → fa i ≠ 9) ∧ ∀ j, j < n → fb j ≠ 9
end
section
/-! WHAT THE METHODS ANSWER: words for both sides -/
theorem sw_cnt_t {p : Nat → Bool} {j : Nat} (h : p j = true) : sw_cnt p (j + 1) = sw_cnt p j + 1 := by
  show sw_cnt p j + (if p j = true then 1 else 0) = _
  rw [if_pos h]
theorem sw_cnt_f {p : Nat → Bool} {j : Nat} (h : p j = false) : sw_cnt p (j + 1) = sw_cnt p j := by
  show sw_cnt p j + (if p j = true then 1 else 0) = _
  rw [if_neg (by rw [h]; decide), Nat.add_zero]
def sw_p1 (la lb : Nat → Int32) (M : Nat) (fv tv : Int32) (j : Nat) : Bool := decide (fv ≤ sw_v la lb M j) && decide (nI j < tv)
def sw_p2 (la lb : Nat → Int32) (M N : Nat) (fv tv : Int32) (i : Nat) : Bool := decide (fv ≤ sw_r la lb i N) && decide (nI N + nI M - 1 - nI i < tv)
theorem sw_st_p (la lb : Nat → Int32) (M N : Nat) (fv tv : Int32) : sw_st la lb M N fv tv = sw_cnt (sw_p1 la lb M fv tv) N + sw_cnt (sw_p2 la lb M N fv tv) M := rfl
theorem sw_p1_t {la lb : Nat → Int32} {M j : Nat} {fv tv : Int32} (h : ¬ sw_v la lb M j < fv) (h2 : ¬ tv ≤ nI j) : sw_p1 la lb M fv tv j = true := by
  unfold sw_p1
  rw [decide_eq_true (sw_nlt.mp h), decide_eq_true (sw_nle.mp h2)]; rfl
theorem sw_p1_f {la lb : Nat → Int32} {M j : Nat} {fv tv : Int32} (h : sw_v la lb M j < fv ∨ tv ≤ nI j) : sw_p1 la lb M fv tv j = false := by
  unfold sw_p1
  rcases h with h | h
  · rw [decide_eq_false (sw_nle.mpr h)]; rfl
  · rw [decide_eq_false (sw_nlt.mpr h), Bool.and_false]
theorem sw_p2_t {la lb : Nat → Int32} {M N i : Nat} {fv tv : Int32} (h : ¬ sw_r la lb i N < fv) (h2 : ¬ tv ≤ nI N + nI M - 1 - nI i) : sw_p2 la lb M N fv tv i = true := by
  unfold sw_p2
  rw [decide_eq_true (sw_nlt.mp h), decide_eq_true (sw_nle.mp h2)]; rfl
theorem sw_p2_f {la lb : Nat → Int32} {M N i : Nat} {fv tv : Int32} (h : sw_r la lb i N < fv ∨ tv ≤ nI N + nI M - 1 - nI i) : sw_p2 la lb M N fv tv i = false := by
  unfold sw_p2
  rcases h with h | h
  · rw [decide_eq_false (sw_nle.mpr h)]; rfl
  · rw [decide_eq_false (sw_nlt.mpr h), Bool.and_false]
/-- a number's place -/
def iN (x : Int32) : Nat := x.toNatClampNeg
theorem iN_n {k : Nat} (h : k < 2 ^ 31) : iN (nI k) = k := nI_clamp h
theorem sw_negI (k : Nat) : -nI k = 0 - nI k := (Int32.zero_sub (nI k)).symm
/-- bad arguments -/
abbrev sw_bl (c : Int32) : Prop := c < 0 ∨ 3 < c
abbrev sw_bs (i j len : Int32) : Prop := i < 0 ∨ j < i ∨ len < j
abbrev sw_bc (k j : Int32) (m n : Nat) : Prop := k < 0 ∨ nI m < k ∨ j < 0 ∨ nI n < j
abbrev sw_bw (w : Int32) (n : Nat) : Prop := w < 0 ∨ nI n < w
/-- what a test answers -/
abbrev sw_is (P : Prop) (r : Int32) : Prop := (P ∧ r = 1) ∨ (¬ P ∧ r = 0)
theorem sw_is_f {P : Prop} {r : Int32} (h : sw_is P r) (h0 : r = 0) : ¬ P := by
  rcases h with ⟨_, e⟩ | ⟨h, _⟩
  · rw [h0] at e; exact absurd e (by decide)
  · exact h
theorem sw_is_t {P : Prop} {r : Int32} (h : sw_is P r) (h0 : ¬ r = 0) : P := by
  rcases h with ⟨h, _⟩ | ⟨_, e⟩
  · exact h
  · exact absurd e h0
theorem sw_goodN {x : Int32} {n : Nat} (hn : n < 2 ^ 31) (h0 : ¬ x < 0) (h : ¬ nI n < x) : ∃ k, k ≤ n ∧ x = nI k := by
  obtain ⟨k, hk, e⟩ := nI_of h0
  refine ⟨k, ?_, e⟩
  rw [e, nI_ltI hn hk] at h
  omega
theorem sw_goodS {i j : Int32} {n : Nat} (hn : n < 2 ^ 31) (h : ¬ sw_bs i j (nI n)) : ∃ i' j', i = nI i' ∧ j = nI j' ∧ i' ≤ j' ∧ j' ≤ n := by
  have h1 : ¬ i < 0 := fun z => h (Or.inl z)
  have h2 : ¬ j < i := fun z => h (Or.inr (Or.inl z))
  have h3 : ¬ nI n < j := fun z => h (Or.inr (Or.inr z))
  have h4 : ¬ j < 0 := by rw [sw_lt] at *; omega
  obtain ⟨j', hj, rfl⟩ := sw_goodN hn h4 h3
  obtain ⟨i', hi, rfl⟩ := sw_goodN (n := j') (by omega) h1 h2
  exact ⟨i', j', rfl, rfl, hi, hj⟩
theorem sw_goodC {k j : Int32} {m n : Nat} (hm : m < 2 ^ 31) (hn : n < 2 ^ 31) (h : ¬ sw_bc k j m n) : ∃ k' j', k = nI k' ∧ j = nI j' ∧ k' ≤ m ∧ j' ≤ n := by
  obtain ⟨k', h1, e1⟩ := sw_goodN hm (fun z => h (Or.inl z)) (fun z => h (Or.inr (Or.inl z)))
  obtain ⟨j', h2, e2⟩ := sw_goodN hn (fun z => h (Or.inr (Or.inr (Or.inl z)))) (fun z => h (Or.inr (Or.inr (Or.inr z))))
  exact ⟨k', j', e1, e2, h1, h2⟩
/-- the answers -/
def an_commonB (m n : Nat) (fa fb : Nat → Int32) (i j : Int32) : Int32 := if sw_bs i j (nI n) then -1 else nI (sw_d fa fb 0 (iN i) m (iN j - iN i))
def an_commonA (m n : Nat) (fa fb : Nat → Int32) (i j : Int32) : Int32 := if sw_bs i j (nI m) then -1 else nI (sw_d fa fb (iN i) 0 (iN j - iN i) n)
def an_commonEnd (m n : Nat) (fa fb : Nat → Int32) (k j : Int32) : Int32 := if sw_bc k j m n then -1 else nI (sw_d fa fb (m - iN k) 0 (iN k) (iN j))
def an_commonBegin (m n : Nat) (fa fb : Nat → Int32) (k j : Int32) : Int32 := if sw_bc k j m n then -1 else nI (sw_d fa fb 0 (n - iN j) (iN k) (iN j))
def an_changesB (m n : Nat) (fa fb : Nat → Int32) (i j : Int32) : Int32 := if sw_bs i j (nI n) then -1 else nI (sw_e fa fb 0 (iN i) m (iN j - iN i))
def an_changesA (m n : Nat) (fa fb : Nat → Int32) (i j : Int32) : Int32 := if sw_bs i j (nI m) then -1 else nI (sw_e fa fb (iN i) 0 (iN j - iN i) n)
def an_widest (m n : Nat) (fa fb : Nat → Int32) (w : Int32) : Int32 := if sw_bw w n then -4 else nI (sw_wid fa fb m n (iN w))
def an_rotated (m n : Nat) (fa fb : Nat → Int32) : Int32 := nI (sw_best (fun i => sw_d fa (fun j => fb (j % n)) 0 i m n) n)
noncomputable def an_tight (m n : Nat) (fa fb : Nat → Int32) : Int32 := nI (sw_nt (fun i j => sw_d fa fb 0 i m (j - i)) n)
def an_isMin (m n : Nat) (fa fb : Nat → Int32) (r : Int32) : Prop := sw_isMin (fun i j => sw_e fa fb 0 i m (j - i)) n r
def an_isAt (m n : Nat) (fa fb : Nat → Int32) (r : Int32) : Prop := sw_isAt (fun i j => sw_e fa fb 0 i m (j - i)) n r
def an_isShort (m n : Nat) (fa fb : Nat → Int32) (k r : Int32) : Prop := sw_isShort (sw_wid fa fb m n) n k r
/-- the plain letters -/
theorem sw_lA0 (fa : Nat → Int32) : sw_lA fa 0 = fa := rfl
theorem sw_lA1 (fa : Nat → Int32) : sw_lA fa 1 = sw_sp fa := rfl
theorem sw_lA2 (fa : Nat → Int32) : sw_lA fa 2 = fa := rfl
theorem sw_lB0 (fb : Nat → Int32) (n : Nat) : sw_lB fb n 0 = fb := rfl
theorem sw_lB1 (fb : Nat → Int32) (n : Nat) : sw_lB fb n 1 = sw_sp fb := rfl
theorem sw_lB2 (fb : Nat → Int32) (n : Nat) : sw_lB fb n 2 = fun j => fb (if j < n then j else j - n) := rfl
/-- both braids anew -/
theorem sw_inv_mk {m n : Nat} {fa fb fr fc R1 D1 R2 D2 : Nat → Int32} (hm : m ≤ 10) (hn : n ≤ 14) (h0 : sw_cb (sw_lA fa 0) (sw_lB fb n 0) 0 m n R1 D1) (h1 : sw_cb (sw_lA fa 1) (sw_lB fb n 1) 1 (2 * m) (2 * n) R2 D2) (k : sw_kp 1 R1 D1 R2 D2) : sw_inv m n fa fb (upd (upd fr 0 (nI m)) 1 (nI (2 * m))) (upd (upd fc 0 (nI n)) 1 (nI (2 * n))) R2 D2 :=
  ⟨hm, hn, (pk_un (by decide)).trans pk_us, pk_us, (pk_un (by decide)).trans pk_us, pk_us, sw_cb_kp h0 k (by decide) (by omega) (by omega), h1⟩
/-- changes out of the spaced braid -/
theorem sw_chg {m n i j : Nat} {fa fb : Nat → Int32} (hl : sw_let m n fa fb) (hij : i ≤ j) (hj : j ≤ n) (hm : m ≤ 10) (hn : n ≤ 14) : nI (m + j - i) - sw_cm (sw_sp fa) (sw_sp fb) (2 * m) (2 * n) (nI (2 * i)) (nI (2 * j)) = nI (sw_e fa fb 0 i m (j - i)) := by
  rw [sw_cmB (by omega) (by omega) (by omega) (by omega)]
  have h := sw_spaced (la := fa) (lb := fb) (s := 0) (t := i) (X := m) (Y := j - i) (fun x hx => by rw [Nat.zero_add]; exact hl.1 x hx) (fun y hy => hl.2 (i + y) (by omega)) m (Nat.le_refl m) (j - i) (Nat.le_refl _)
  rw [Nat.mul_zero, show 2 * (j - i) = 2 * j - 2 * i by omega] at h
  rw [pk_sub (by omega)]
  congr 1
  omega
theorem sw_chgA {m n i j : Nat} {fa fb : Nat → Int32} (hl : sw_let m n fa fb) (hij : i ≤ j) (hj : j ≤ m) (hm : m ≤ 10) (hn : n ≤ 14) : nI (n + j - i) - nI (sw_d (sw_sp fa) (sw_sp fb) (2 * i) 0 (2 * j - 2 * i) (2 * n)) = nI (sw_e fa fb i 0 (j - i) n) := by
  have h := sw_spaced (la := fa) (lb := fb) (s := i) (t := 0) (X := j - i) (Y := n) (fun x hx => hl.1 (i + x) (by omega)) (fun y hy => by rw [Nat.zero_add]; exact hl.2 y hy) (j - i) (Nat.le_refl _) n (Nat.le_refl n)
  rw [Nat.mul_zero, show 2 * (j - i) = 2 * j - 2 * i by omega] at h
  rw [pk_sub (by omega)]
  congr 1
  omega
end
section
/-! WHAT THE METHODS DO: the words' changes; searches over all stretches; plain -/
abbrev sw_T : Type := Nat × Nat × (Nat → Int32) × (Nat → Int32)
abbrev sw_F : Type := (Nat → Int32) × (Nat → Int32) × (Nat → Int32) × (Nat → Int32)
def sw_invT (T : sw_T) (f : sw_F) : Prop := sw_inv T.1 T.2.1 T.2.2.1 T.2.2.2 f.1 f.2.1 f.2.2.1 f.2.2.2
def sw_letT (T : sw_T) : Prop := sw_let T.1 T.2.1 T.2.2.1 T.2.2.2
/-- b moved one place, the first j letters -/
def sw_sh (fb : Nat → Int32) (j : Nat) : Nat → Int32 := fun k => if k < j then fb (k + 1) else fb k
theorem sw_sh_0 (fb : Nat → Int32) : sw_sh fb 0 = fb := by
  funext k
  unfold sw_sh
  rw [if_neg (Nat.not_lt_zero k)]
theorem sw_sh_s (fb : Nat → Int32) (j : Nat) : upd (sw_sh fb j) j (sw_sh fb j (j + 1)) = sw_sh fb (j + 1) := by
  funext k
  unfold sw_sh upd
  by_cases h : k = j
  · subst h
    rw [if_pos rfl, if_neg (by omega), if_pos (by omega)]
  · rw [if_neg h]
    show (if k < j then fb (k + 1) else fb k) = _
    by_cases q : k < j
    · rw [if_pos q, if_pos (by omega)]
    · rw [if_neg q, if_neg (by omega)]
theorem sw_upd_same {f : Nat → Int32} {k : Nat} {x : Int32} (h : f k = x) : upd f k x = f := by
  funext j
  unfold upd
  by_cases q : j = k
  · rw [if_pos q, q, h]
  · rw [if_neg q]
def se_growA (T : sw_T) (x : Int32) : Int32 × sw_T := if sw_bl x then (-1, T) else if T.1 = 10 then (-2, T) else (nI (T.1 + 1), (T.1 + 1, T.2.1, upd T.2.2.1 T.1 x, T.2.2.2))
def se_growB (T : sw_T) (x : Int32) : Int32 × sw_T := if sw_bl x then (-1, T) else if T.2.1 = 14 then (-2, T) else (nI (T.2.1 + 1), (T.1, T.2.1 + 1, T.2.2.1, upd T.2.2.2 T.2.1 x))
def se_putA (T : sw_T) (i x : Int32) : Int32 × sw_T := if i < 0 ∨ nI T.1 ≤ i ∨ sw_bl x then (-1, T) else (T.2.2.1 (iN i), (T.1, T.2.1, upd T.2.2.1 (iN i) x, T.2.2.2))
def se_shiftB (T : sw_T) : Int32 × sw_T := if T.2.1 = 0 then (-4, T) else (T.2.2.2 0, (T.1, T.2.1 - 1, T.2.2.1, sw_sh T.2.2.2 (T.2.1 - 1)))
def se_clear (T : sw_T) : sw_T := (0, 0, T.2.2.1, T.2.2.2)
theorem sw_bl_9 {x : Int32} (h : ¬ sw_bl x) : x ≠ 9 := fun z => h (Or.inr (by rw [z]; decide))
theorem sw_let_growA {T : sw_T} {x : Int32} (h : sw_letT T) : sw_letT (se_growA T x).2 := by
  unfold se_growA
  split
  · exact h
  · rename_i hb
    split
    · exact h
    · refine ⟨fun i hi => ?_, h.2⟩
      show upd T.2.2.1 T.1 x i ≠ 9
      by_cases q : i = T.1
      · rw [q, pk_us]; exact sw_bl_9 hb
      · rw [pk_un q]; exact h.1 i (Nat.lt_of_le_of_ne (Nat.le_of_lt_succ hi) q)
theorem sw_let_growB {T : sw_T} {x : Int32} (h : sw_letT T) : sw_letT (se_growB T x).2 := by
  unfold se_growB
  split
  · exact h
  · rename_i hb
    split
    · exact h
    · refine ⟨h.1, fun i hi => ?_⟩
      show upd T.2.2.2 T.2.1 x i ≠ 9
      by_cases q : i = T.2.1
      · rw [q, pk_us]; exact sw_bl_9 hb
      · rw [pk_un q]; exact h.2 i (Nat.lt_of_le_of_ne (Nat.le_of_lt_succ hi) q)
theorem sw_let_putA {T : sw_T} {i x : Int32} (h : sw_letT T) : sw_letT (se_putA T i x).2 := by
  unfold se_putA
  split
  · exact h
  · rename_i hb
    refine ⟨fun k hk => ?_, h.2⟩
    show upd T.2.2.1 (iN i) x k ≠ 9
    by_cases q : k = iN i
    · rw [q, pk_us]; exact sw_bl_9 (fun z => hb (Or.inr (Or.inr z)))
    · rw [pk_un q]; exact h.1 k hk
theorem sw_let_shiftB {T : sw_T} (h : sw_letT T) : sw_letT (se_shiftB T).2 := by
  unfold se_shiftB
  split
  · exact h
  · rename_i hb
    refine ⟨h.1, fun k hk => ?_⟩
    show sw_sh T.2.2.2 (T.2.1 - 1) k ≠ 9
    have hk2 : k < T.2.1 - 1 := hk
    unfold sw_sh
    rw [if_pos hk2]
    exact h.2 (k + 1) (by omega)
theorem sw_let_clear {T : sw_T} : sw_letT (se_clear T) := ⟨fun i hi => absurd hi (Nat.not_lt_zero i), fun i hi => absurd hi (Nat.not_lt_zero i)⟩
/-- one row more of both braids -/
theorem sw_inv_row {m n : Nat} {fa fb fr fc R D : Nat → Int32} (h : sw_inv m n fa fb fr fc R D) (x : Int32) : sw_cb (sw_lA (upd fa m x) 0) (sw_lB fb n 0) 0 m n R D ∧ sw_cb (sw_lA (upd fa m x) 1) (sw_lB fb n 1) 1 (2 * m) (2 * n) R D := by
  obtain ⟨-, -, -, -, -, -, h0, h1⟩ := h
  refine ⟨sw_cb_cg h0 (fun k hk => ?_) (fun _ _ => rfl), sw_cb_cg h1 (fun k hk => ?_) (fun _ _ => rfl)⟩
  · rw [sw_lA0, sw_lA0]; exact (pk_un (by omega)).symm
  · rw [sw_lA1, sw_lA1]; unfold sw_sp
    split
    · rfl
    · exact (pk_un (by omega)).symm
theorem sw_inv_row2 {m n : Nat} {fa fb fr fc R1 D1 R2 D2 R3 D3 : Nat → Int32} (hm : m + 1 ≤ 10) (hn : n ≤ 14) (hc0 : fc 0 = nI n) (hc1 : fc 1 = nI (2 * n)) (h0 : sw_cb (sw_lA fa 0) (sw_lB fb n 0) 0 (m + 1) n R1 D1) (k1 : sw_kp 1 R1 D1 R2 D2) (k2 : sw_kp 1 R2 D2 R3 D3) (h1 : sw_cb (sw_lA fa 1) (sw_lB fb n 1) 1 (2 * m + 1 + 1) (2 * n) R3 D3) : sw_inv (m + 1) n fa fb (upd (upd (upd fr 0 (nI (m + 1))) 1 (nI (2 * m + 1))) 1 (nI (2 * m + 1 + 1))) fc R3 D3 :=
  ⟨hm, hn, (pk_un (by decide)).trans ((pk_un (by decide)).trans pk_us), pk_us, hc0, hc1, sw_cb_kp h0 (sw_kp_tr k1 k2) (by decide) (by omega) (by omega), h1⟩
/-- one column more of both braids -/
theorem sw_inv_col {m n : Nat} {fa fb fr fc R D : Nat → Int32} (h : sw_inv m n fa fb fr fc R D) (x : Int32) : sw_cb (sw_lA fa 0) (sw_lB (upd fb n x) (n + 1) 0) 0 m n R D ∧ sw_cb (sw_lA fa 1) (sw_lB (upd fb n x) (n + 1) 1) 1 (2 * m) (2 * n) R D := by
  obtain ⟨-, -, -, -, -, -, h0, h1⟩ := h
  refine ⟨sw_cb_cg h0 (fun _ _ => rfl) (fun k hk => ?_), sw_cb_cg h1 (fun _ _ => rfl) (fun k hk => ?_)⟩
  · rw [sw_lB0, sw_lB0]; exact (pk_un (by omega)).symm
  · rw [sw_lB1, sw_lB1]; unfold sw_sp
    split
    · rfl
    · exact (pk_un (by omega)).symm
theorem sw_inv_col2 {m n : Nat} {fa fb fr fc R1 D1 R2 D2 R3 D3 : Nat → Int32} (hm : m ≤ 10) (hn : n + 1 ≤ 14) (hr0 : fr 0 = nI m) (hr1 : fr 1 = nI (2 * m)) (h0 : sw_cb (sw_lA fa 0) (sw_lB fb (n + 1) 0) 0 m (n + 1) R1 D1) (k1 : sw_kp 1 R1 D1 R2 D2) (k2 : sw_kp 1 R2 D2 R3 D3) (h1 : sw_cb (sw_lA fa 1) (sw_lB fb (n + 1) 1) 1 (2 * m) (2 * n + 1 + 1) R3 D3) : sw_inv m (n + 1) fa fb fr (upd (upd (upd fc 0 (nI (n + 1))) 1 (nI (2 * n + 1))) 1 (nI (2 * n + 1 + 1))) R3 D3 :=
  ⟨hm, hn, hr0, hr1, (pk_un (by decide)).trans ((pk_un (by decide)).trans pk_us), pk_us, sw_cb_kp h0 (sw_kp_tr k1 k2) (by decide) (by omega) (by omega), h1⟩
/-- (i', j') stands before (i, j) -/
abbrev sw_bf (i j i' j' : Nat) : Prop := i' < i ∨ (i' = i ∧ j' < j)
/-- the class's search for the nearest stretch, at (i, j): best b at a -/
def sw_na (g : Nat → Nat → Nat) (n i j b a : Nat) : Prop := (b = 100 ∧ a = 0 ∧ i = 0 ∧ j = 0) ∨ ∃ bi bj, bi ≤ bj ∧ bj ≤ n ∧ b = g bi bj ∧ a = 16 * bi + bj ∧ (∀ i' j', i' ≤ j' → j' ≤ n → sw_bf i j i' j' → g bi bj ≤ g i' j') ∧ ∀ i' j', i' ≤ j' → j' ≤ n → sw_bf bi bj i' j' → g bi bj < g i' j'
theorem sw_na_0 (g : Nat → Nat → Nat) (n : Nat) : sw_na g n 0 0 100 0 := Or.inl ⟨rfl, rfl, rfl, rfl⟩
theorem sw_na_t {g : Nat → Nat → Nat} {n i j b a : Nat} (h : sw_na g n i j b a) (hij : i ≤ j) (hj : j ≤ n) (hb : g i j < b) : sw_na g n i (j + 1) (g i j) (16 * i + j) := by
  refine Or.inr ⟨i, j, hij, hj, rfl, rfl, fun i' j' h1 h2 h3 => ?_, fun i' j' h1 h2 h3 => ?_⟩
  · by_cases q : i' = i ∧ j' = j
    · rw [q.1, q.2]; exact Nat.le_refl _
    · rcases h with ⟨-, -, e1, e2⟩ | ⟨bi, bj, -, -, e, -, h4, -⟩
      · exact absurd h3 (by omega)
      · have := h4 i' j' h1 h2 (by omega)
        omega
  · rcases h with ⟨-, -, e1, e2⟩ | ⟨bi, bj, -, -, e, -, h4, -⟩
    · exact absurd h3 (by omega)
    · have := h4 i' j' h1 h2 (by omega)
      omega
theorem sw_na_f {g : Nat → Nat → Nat} {n i j b a : Nat} (h : sw_na g n i j b a) (hg : g i j < 100) (hb : b ≤ g i j) : sw_na g n i (j + 1) b a := by
  rcases h with ⟨e0, -, e1, e2⟩ | ⟨bi, bj, h1, h2, e, ea, h4, h5⟩
  · exact absurd hb (by omega)
  · refine Or.inr ⟨bi, bj, h1, h2, e, ea, fun i' j' g1 g2 g3 => ?_, h5⟩
    by_cases q : i' = i ∧ j' = j
    · rw [q.1, q.2]; omega
    · exact h4 i' j' g1 g2 (by omega)
theorem sw_na_r {g : Nat → Nat → Nat} {n i b a : Nat} (h : sw_na g n i (n + 1) b a) : sw_na g n (i + 1) (i + 1) b a := by
  rcases h with ⟨e0, -, e1, e2⟩ | ⟨bi, bj, h1, h2, e, ea, h4, h5⟩
  · exact absurd e2 (by omega)
  · exact Or.inr ⟨bi, bj, h1, h2, e, ea, fun i' j' g1 g2 g3 => h4 i' j' g1 g2 (by omega), h5⟩
theorem sw_na_e {g : Nat → Nat → Nat} {n b a : Nat} (h : sw_na g n (n + 1) (n + 1) b a) : sw_isAt g n (nI a) := by
  rcases h with ⟨e0, -, e1, e2⟩ | ⟨bi, bj, h1, h2, e, ea, h4, h5⟩
  · exact absurd e2 (by omega)
  · exact ⟨bi, bj, h1, h2, by rw [ea], fun i' j' g1 g2 => h4 i' j' g1 g2 (by omega), h5⟩
/-- the reference's search for the least -/
def sw_mn (g : Nat → Nat → Nat) (n i j b : Nat) : Prop := ∃ bi bj, bi ≤ bj ∧ bj ≤ n ∧ b = g bi bj ∧ ∀ i' j', i' ≤ j' → j' ≤ n → sw_bf i j i' j' → b ≤ g i' j'
theorem sw_mn_0 {g : Nat → Nat → Nat} {n b : Nat} (h : b = g 0 0) : sw_mn g n 0 0 b := ⟨0, 0, Nat.le_refl 0, Nat.zero_le n, h, fun i' j' h1 h2 h3 => absurd h3 (by omega)⟩
theorem sw_mn_s {g : Nat → Nat → Nat} {n i j b : Nat} (h : sw_mn g n i j b) (hij : i ≤ j) (hj : j ≤ n) : sw_mn g n i (j + 1) (min b (g i j)) := by
  obtain ⟨bi, bj, h1, h2, e, h4⟩ := h
  have key : ∀ i' j', i' ≤ j' → j' ≤ n → sw_bf i (j + 1) i' j' → min b (g i j) ≤ g i' j' := by
    intro i' j' g1 g2 g3
    by_cases q : i' = i ∧ j' = j
    · rw [q.1, q.2]; omega
    · have := h4 i' j' g1 g2 (by omega)
      omega
  by_cases q : b ≤ g i j
  · exact ⟨bi, bj, h1, h2, by omega, key⟩
  · exact ⟨i, j, hij, hj, by omega, key⟩
theorem sw_mn_r {g : Nat → Nat → Nat} {n i b : Nat} (h : sw_mn g n i (n + 1) b) : sw_mn g n (i + 1) (i + 1) b := by
  obtain ⟨bi, bj, h1, h2, e, h4⟩ := h
  exact ⟨bi, bj, h1, h2, e, fun i' j' g1 g2 g3 => h4 i' j' g1 g2 (by omega)⟩
theorem sw_mn_e {g : Nat → Nat → Nat} {n b : Nat} (h : sw_mn g n (n + 1) (n + 1) b) : sw_isMin g n (nI b) := by
  obtain ⟨bi, bj, h1, h2, e, h4⟩ := h
  exact ⟨bi, bj, h1, h2, by rw [e], fun i' j' g1 g2 => by rw [← e]; exact h4 i' j' g1 g2 (by omega)⟩
/-- the first that meets the least -/
theorem sw_at_min {g : Nat → Nat → Nat} {n i j : Nat} (hij : i ≤ j) (hj : j ≤ n) (hmin : ∀ i' j', i' ≤ j' → j' ≤ n → g i j ≤ g i' j') (hne : ∀ i' j', i' ≤ j' → j' ≤ n → sw_bf i j i' j' → g i' j' ≠ g i j) : sw_isAt g n (nI (16 * i + j)) :=
  ⟨i, j, hij, hj, rfl, hmin, fun i' j' g1 g2 g3 => Nat.lt_of_le_of_ne (hmin i' j' g1 g2) (fun z => hne i' j' g1 g2 g3 z.symm)⟩
theorem sw_max_t {a b : Nat} (h : b < a) : a = max b a := by omega
theorem sw_max_f {a b : Nat} (h : a ≤ b) : b = max b a := by omega
/-- B and B again -/
theorem sw_twice {fa fb : Nat → Int32} {m n : Nat} : sw_best (fun i => sw_d (sw_lA fa 2) (sw_lB fb n 2) 0 i m n) n = sw_best (fun i => sw_d fa (fun j => fb (j % n)) 0 i m n) n := by
  apply sw_best_congr
  intro i hi
  refine sw_d_congr (fun x hx => rfl) (fun y hy => ?_) m (Nat.le_refl m) n (Nat.le_refl n)
  rw [sw_lB2]
  show fb (if i + y < n then i + y else i + y - n) = fb ((i + y) % n)
  by_cases q : i + y < n
  · rw [if_pos q, Nat.mod_eq_of_lt q]
  · rw [if_neg q, Nat.mod_eq_sub_mod (by omega), Nat.mod_eq_of_lt (by omega)]
/-- the class counts tight stretches -/
def sw_q1 (fa fb : Nat → Int32) (m i d : Nat) : Bool := decide (sw_d fa fb 0 i m d < sw_d fa fb 0 i m (d + 1)) && decide (sw_d fa fb 0 (i + 1) m d < sw_d fa fb 0 i m (d + 1))
theorem sw_q1_t {fa fb : Nat → Int32} {m i d : Nat} (h1 : sw_d fa fb 0 i m d < sw_d fa fb 0 i m (d + 1)) (h2 : sw_d fa fb 0 (i + 1) m d < sw_d fa fb 0 i m (d + 1)) : sw_q1 fa fb m i d = true := by
  unfold sw_q1; rw [decide_eq_true h1, decide_eq_true h2]; rfl
theorem sw_q1_f {fa fb : Nat → Int32} {m i d : Nat} (h : sw_d fa fb 0 i m (d + 1) ≤ sw_d fa fb 0 i m d ∨ sw_d fa fb 0 i m (d + 1) ≤ sw_d fa fb 0 (i + 1) m d) : sw_q1 fa fb m i d = false := by
  unfold sw_q1
  rcases h with h | h
  · rw [decide_eq_false (Nat.not_lt.mpr h)]; rfl
  · rw [decide_eq_false (Nat.not_lt.mpr h), Bool.and_false]
theorem sw_nt_q (fa fb : Nat → Int32) (m n : Nat) : nI (n + 1 + sw_sum (fun i => sw_cnt (sw_q1 fa fb m i) (n - i)) n) = an_tight m n fa fb := by
  unfold an_tight
  rw [← sw_nt_class]
  rfl
end
section
/-! THE REFERENCE'S TABLES: plain -/
/-- the table is filled up to (x, y), row by row -/
def sw_tb (g : Nat → Nat → Nat) (J x y : Nat) (ft : Nat → Int32) : Prop := ∀ x' y', y' ≤ J → sw_bf x y x' y' → ft (x' * 15 + y') = nI (g x' y')
theorem sw_tb_0 (g : Nat → Nat → Nat) (J : Nat) (ft : Nat → Int32) : sw_tb g J 0 0 ft := fun x' y' _ h => absurd h (by omega)
theorem sw_tb_s {g : Nat → Nat → Nat} {J x y b : Nat} {ft : Nat → Int32} (h : sw_tb g J x y ft) (hJ : J ≤ 14) (hy : y ≤ J) (hb : b = g x y) : sw_tb g J x (y + 1) (upd ft (x * 15 + y) (nI b)) := by
  intro x' y' h1 h2
  by_cases q : x' = x ∧ y' = y
  · rw [q.1, q.2, pk_us, hb]
  · rw [pk_un (by omega)]
    exact h x' y' h1 (by omega)
theorem sw_tb_r {g : Nat → Nat → Nat} {J x : Nat} {ft : Nat → Int32} (h : sw_tb g J x (J + 1) ft) : sw_tb g J (x + 1) 0 ft := fun x' y' h1 h2 => h x' y' h1 (by omega)
/-- the answers of all stretches are filled up to (i, j) -/
def sw_fo (G : Nat → Nat → Nat) (n i j : Nat) (fo : Nat → Int32) : Prop := ∀ k l, k ≤ l → l ≤ n → sw_bf i j k l → fo (k * 15 + l) = nI (G k l)
theorem sw_fo_0 (G : Nat → Nat → Nat) (n : Nat) (fo : Nat → Int32) : sw_fo G n 0 0 fo := fun k l _ _ h => absurd h (by omega)
theorem sw_fo_s {G : Nat → Nat → Nat} {n i j : Nat} {fo : Nat → Int32} (h : sw_fo G n i j fo) (hn : n ≤ 14) (hj : j ≤ n) : sw_fo G n i (j + 1) (upd fo (i * 15 + j) (nI (G i j))) := by
  intro k l h1 h2 h3
  by_cases q : k = i ∧ l = j
  · rw [q.1, q.2, pk_us]
  · rw [pk_un (by omega)]
    exact h k l h1 h2 (by omega)
theorem sw_fo_r {G : Nat → Nat → Nat} {n i : Nat} {fo : Nat → Int32} (h : sw_fo G n i (n + 1) fo) : sw_fo G n (i + 1) (i + 1) fo := fun k l h1 h2 h3 => h k l h1 h2 (by omega)
/-- is (i, j) tight: no other up to (k, l) -/
def sw_ts (G : Nat → Nat → Nat) (i j k l : Nat) : Prop := ∀ k' l', i ≤ k' → k' ≤ l' → l' ≤ j → sw_bf k l k' l' → (k' ≠ i ∨ l' ≠ j) → G k' l' < G i j
theorem sw_ts_0 (G : Nat → Nat → Nat) (i j : Nat) : sw_ts G i j i i := fun k' l' h1 h2 h3 h4 => absurd h4 (by omega)
theorem sw_ts_s {G : Nat → Nat → Nat} {i j k l : Nat} (h : sw_ts G i j k l) (h0 : (k ≠ i ∨ l ≠ j) → G k l < G i j) : sw_ts G i j k (l + 1) := by
  intro k' l' h1 h2 h3 h4 h5
  by_cases q : k' = k ∧ l' = l
  · rw [q.1, q.2]; exact h0 (by omega)
  · exact h k' l' h1 h2 h3 (by omega) h5
theorem sw_ts_r {G : Nat → Nat → Nat} {i j k : Nat} (h : sw_ts G i j k (j + 1)) : sw_ts G i j (k + 1) (k + 1) := fun k' l' h1 h2 h3 h4 h5 => h k' l' h1 h2 h3 (by omega) h5
theorem sw_ts_e {G : Nat → Nat → Nat} {i j : Nat} (h : sw_ts G i j (j + 1) (j + 1)) : sw_ti G i j := fun k hk hik l hl hkl h5 => h k l hik hkl hl (by omega) h5
theorem sw_ts_no {G : Nat → Nat → Nat} {i j k l : Nat} (hik : i ≤ k) (hkl : k ≤ l) (hl : l ≤ j) (h5 : k ≠ i ∨ l ≠ j) (h : G i j ≤ G k l) : ¬ sw_ti G i j := fun z => by
  have := z k (by omega) hik l hl hkl h5
  omega
/-- n letters again and again: the same in the first n -/
theorem sw_d_mod (fa fb : Nat → Int32) (s t x y n : Nat) (h : t + y ≤ n) : sw_d fa (fun z => fb (z % n)) s t x y = sw_d fa fb s t x y :=
  sw_d_congr (fun _ _ => rfl) (fun z hz => by show fb ((t + z) % n) = fb (t + z); rw [Nat.mod_eq_of_lt (by omega)]) x (Nat.le_refl x) y (Nat.le_refl y)
theorem sw_d_eq {la lb : Nat → Int32} {s t x y : Nat} (h : la (s + x) = lb (t + y)) : sw_d la lb s t x y + 1 = sw_d la lb s t (x + 1) (y + 1) := by rw [sw_d_s, if_pos h]
theorem sw_d_ne {la lb : Nat → Int32} {s t x y : Nat} (h : ¬ la (s + x) = lb (t + y)) : max (sw_d la lb s t x (y + 1)) (sw_d la lb s t (x + 1) y) = sw_d la lb s t (x + 1) (y + 1) := by rw [sw_d_s, if_neg h]
theorem sw_e_eq {la lb : Nat → Int32} {s t x y : Nat} (h : la (s + x) = lb (t + y)) : min (sw_e la lb s t x y + 0) (min (sw_e la lb s t x (y + 1)) (sw_e la lb s t (x + 1) y) + 1) = sw_e la lb s t (x + 1) (y + 1) := by rw [sw_e_s, if_pos h]
theorem sw_e_ne {la lb : Nat → Int32} {s t x y : Nat} (h : ¬ la (s + x) = lb (t + y)) : min (sw_e la lb s t x y + 1) (min (sw_e la lb s t x (y + 1)) (sw_e la lb s t (x + 1) y) + 1) = sw_e la lb s t (x + 1) (y + 1) := by rw [sw_e_s, if_neg h]
end
section
/-! THE CLASS, 1: letters, cell, rows and columns; printed by the walker -/
set_option maxHeartbeats 4000000 in
set_option maxRecDepth 100000 in
theorem c_X_letterA {mv nv : Int32} {fa fb fr fc fR fD : Nat → Int32} {β i : Nat} (hβ : β < 3) (hi : (β = 1 ∧ i < 20) ∨ (β ≠ 1 ∧ i < 10)) : MKi 0 y_X_letterA b_X_letterA 3 (some .int) [.int (nI β), .int (nI i)] (XW mv nv fa fb fr fc fR fD) (fun r (_ : Unit) => r = sw_lA fa β i) (fun (_ : Unit) => XW mv nv fa fb fr fc fR fD) := by
  refine ok_i (own := R_X) (by decide) rfl (fun _ => Nat.le_of_ble_eq_true rfl) ?_
  intro l dC dI q cA p e s mi args below meth c A ls Q C hret h hl
  have hx := C.1
  have hb := C.2.1
  have hl : lv_has ls 3 [(0, .ref (q 0)), (1, .int (nI β)), (2, .int (nI i))] := hl
  refine lv_iload_n hx hb d_X_letterA_0 rfl (lv_at hl 1 rfl) ?_
  refine lv_iconst (v := nI 1) hx hb d_X_letterA_1 (by decide) ?_
  refine nb_eq (tgt := 12) hx hb (by omega) (by omega) d_X_letterA_2 (by decide) (fun cb => ?_) (fun cb => ?_)
  · subst cb
    refine lv_iload_n hx hb d_X_letterA_12 rfl (lv_at hl 2 rfl) ?_
    refine lv_iconst (v := nI 1) hx hb d_X_letterA_13 (by decide) ?_
    refine ni_and1 hx hb (by omega) d_X_letterA_14 ?_
    refine nz_ne (tgt := 23) hx hb (by omega) d_X_letterA_15 (by decide) (fun ce => ?_) (fun ce => ?_)
    · refine lv_aload_n hx hb d_X_letterA_23 rfl (lv_at hl 0 rfl) ?_
      refine gX_a C h d_X_letterA_24 ?_
      refine lv_iload_n hx hb d_X_letterA_27 rfl (lv_at hl 2 rfl) ?_
      refine lv_iconst (v := nI 1) hx hb d_X_letterA_28 (by decide) ?_
      refine ni_shr1 hx hb (by omega) d_X_letterA_29 ?_
      refine lX_a C h (i / 2) (by omega) d_X_letterA_30 ?_
      exact hret (fa (i / 2)) () _ _ _ _ d_X_letterA_31 (by show _ = sw_sp fa i; unfold sw_sp; rw [if_neg ce]) h
    · refine lv_bipush (v := nI 9) hx hb d_X_letterA_18 (by decide) ?_
      refine lv_goto (tgt := 31) hx hb d_X_letterA_20 (by decide) ?_
      exact hret (nI 9) () _ _ _ _ d_X_letterA_31 (by show _ = sw_sp fa i; unfold sw_sp; rw [if_pos ce]; rfl) h
  · refine lv_aload_n hx hb d_X_letterA_5 rfl (lv_at hl 0 rfl) ?_
    refine gX_a C h d_X_letterA_6 ?_
    refine lv_iload_n hx hb d_X_letterA_9 rfl (lv_at hl 2 rfl) ?_
    refine lX_a C h (i) (by omega) d_X_letterA_10 ?_
    exact hret (fa i) () _ _ _ _ d_X_letterA_11 (by unfold sw_lA; rw [if_neg cb]) h

set_option maxHeartbeats 4000000 in
set_option maxRecDepth 100000 in
theorem c_X_letterB {mv : Int32} {fa fb fr fc fR fD : Nat → Int32} {n : Nat} {β j : Nat} (hβ : β < 3) (hn : n ≤ 14) (hj : (β = 0 ∧ j < 14) ∨ (β = 1 ∧ j < 28) ∨ (β = 2 ∧ j < 2 * n)) : MKi 0 y_X_letterB b_X_letterB 3 (some .int) [.int (nI β), .int (nI j)] (XW mv (nI n) fa fb fr fc fR fD) (fun r (_ : Unit) => r = sw_lB fb n β j) (fun (_ : Unit) => XW mv (nI n) fa fb fr fc fR fD) := by
  refine ok_i (own := R_X) (by decide) rfl (fun _ => Nat.le_of_ble_eq_true rfl) ?_
  intro l dC dI q cA p e s mi args below meth c A ls Q C hret h hl
  have hx := C.1
  have hb := C.2.1
  have hl : lv_has ls 3 [(0, .ref (q 0)), (1, .int (nI β)), (2, .int (nI j))] := hl
  refine lv_iload_n hx hb d_X_letterB_0 rfl (lv_at hl 1 rfl) ?_
  refine nz_ne (tgt := 11) hx hb (by omega) d_X_letterB_1 (by decide) (fun cb => ?_) (fun cb => ?_)
  · refine lv_iload_n hx hb d_X_letterB_11 rfl (lv_at hl 1 rfl) ?_
    refine lv_iconst (v := nI 1) hx hb d_X_letterB_12 (by decide) ?_
    refine nb_ne (tgt := 36) hx hb (by omega) (by omega) d_X_letterB_13 (by decide) (fun cd => ?_) (fun cd => ?_)
    · refine lv_aload_n hx hb d_X_letterB_36 rfl (lv_at hl 0 rfl) ?_
      refine gX_b C h d_X_letterB_37 ?_
      refine lv_iload_n hx hb d_X_letterB_40 rfl (lv_at hl 2 rfl) ?_
      refine lv_aload_n hx hb d_X_letterB_41 rfl (lv_at hl 0 rfl) ?_
      refine gX_n C h d_X_letterB_42 ?_
      refine nb_ge (tgt := 52) hx hb (by omega) (by omega) d_X_letterB_45 (by decide) (fun cj => ?_) (fun cj => ?_)
      · refine lv_iload_n hx hb d_X_letterB_52 rfl (lv_at hl 2 rfl) ?_
        refine lv_aload_n hx hb d_X_letterB_53 rfl (lv_at hl 0 rfl) ?_
        refine gX_n C h d_X_letterB_54 ?_
        refine ni_sub hx hb (by omega) d_X_letterB_57 ?_
        refine lX_b C h (j - n) (by omega) d_X_letterB_58 ?_
        exact hret (fb (j - n)) () _ _ _ _ d_X_letterB_59 (by unfold sw_lB; rw [if_neg cb, if_neg cd, if_neg (by omega)]) h
      · refine lv_iload_n hx hb d_X_letterB_48 rfl (lv_at hl 2 rfl) ?_
        refine lv_goto (tgt := 58) hx hb d_X_letterB_49 (by decide) ?_
        refine lX_b C h (j) (by omega) d_X_letterB_58 ?_
        exact hret (fb j) () _ _ _ _ d_X_letterB_59 (by unfold sw_lB; rw [if_neg cb, if_neg cd, if_pos cj]) h
    · subst cd
      refine lv_iload_n hx hb d_X_letterB_16 rfl (lv_at hl 2 rfl) ?_
      refine lv_iconst (v := nI 1) hx hb d_X_letterB_17 (by decide) ?_
      refine ni_and1 hx hb (by omega) d_X_letterB_18 ?_
      refine nz_ne (tgt := 27) hx hb (by omega) d_X_letterB_19 (by decide) (fun ce => ?_) (fun ce => ?_)
      · refine lv_aload_n hx hb d_X_letterB_27 rfl (lv_at hl 0 rfl) ?_
        refine gX_b C h d_X_letterB_28 ?_
        refine lv_iload_n hx hb d_X_letterB_31 rfl (lv_at hl 2 rfl) ?_
        refine lv_iconst (v := nI 1) hx hb d_X_letterB_32 (by decide) ?_
        refine ni_shr1 hx hb (by omega) d_X_letterB_33 ?_
        refine lX_b C h (j / 2) (by omega) d_X_letterB_34 ?_
        exact hret (fb (j / 2)) () _ _ _ _ d_X_letterB_35 (by show _ = sw_sp fb j; unfold sw_sp; rw [if_neg ce]) h
      · refine lv_bipush (v := nI 9) hx hb d_X_letterB_22 (by decide) ?_
        refine lv_goto (tgt := 35) hx hb d_X_letterB_24 (by decide) ?_
        exact hret (nI 9) () _ _ _ _ d_X_letterB_35 (by show _ = sw_sp fb j; unfold sw_sp; rw [if_pos ce]; rfl) h
  · subst cb
    refine lv_aload_n hx hb d_X_letterB_4 rfl (lv_at hl 0 rfl) ?_
    refine gX_b C h d_X_letterB_5 ?_
    refine lv_iload_n hx hb d_X_letterB_8 rfl (lv_at hl 2 rfl) ?_
    refine lX_b C h (j) (by omega) d_X_letterB_9 ?_
    exact hret (fb j) () _ _ _ _ d_X_letterB_10 (rfl) h

set_option maxHeartbeats 4000000 in
set_option maxRecDepth 100000 in
theorem c_X_cell {mv : Int32} {fa fb fr fc fR fD : Nat → Int32} {n : Nat} {β i j : Nat} (hn : n ≤ 14) (hi : (β = 1 ∧ i < 20) ∨ (β ≠ 1 ∧ i < 10)) (hj : (β = 0 ∧ j < 14) ∨ (β = 1 ∧ j < 28) ∨ (β = 2 ∧ j < 2 * n)) : MKv 1 y_X_cell b_X_cell 8 [.int (nI β), .int (nI i), .int (nI j)] (XW mv (nI n) fa fb fr fc fR fD) (fun u : (Nat → Int32) × (Nat → Int32) => u = sw_ce (sw_lA fa β i) (sw_lB fb n β j) (β * 20 + i) (β * 28 + j) fR fD) (fun u => XW mv (nI n) fa fb fr fc u.1 u.2) := by
  refine ok_v (own := R_X) (by decide) rfl (fun _ => Nat.le_of_ble_eq_true rfl) ?_
  intro l dC dI q cA p e s mi args below meth c A ls Q C hret h hl
  have hx := C.1
  have hb := C.2.1
  have hl : lv_has ls 8 [(0, .ref (q 0)), (1, .int (nI β)), (2, .int (nI i)), (3, .int (nI j))] := hl
  have hβ : β < 3 := by omega
  refine lv_aload_n hx hb d_X_cell_0 rfl (lv_at hl 0 rfl) ?_
  refine gX_right C h d_X_cell_1 ?_
  refine lv_iload_n hx hb d_X_cell_4 rfl (lv_at hl 1 rfl) ?_
  refine lv_bipush (v := nI 20) hx hb d_X_cell_5 (by decide) ?_
  refine ni_mul hx hb d_X_cell_7 ?_
  refine lv_iload_n hx hb d_X_cell_8 rfl (lv_at hl 2 rfl) ?_
  refine ni_add hx hb d_X_cell_9 ?_
  refine lX_right C h ((β * 20) + i) (by omega) d_X_cell_10 ?_
  refine lv_istore (lv' := [(4, .int (fR ((β * 20) + i))), (0, .ref (q 0)), (1, .int (nI β)), (2, .int (nI i)), (3, .int (nI j))]) hx hb d_X_cell_11 hl (by decide) rfl (fun ls hl => ?_)
  refine lv_aload_n hx hb d_X_cell_13 rfl (lv_at hl 1 rfl) ?_
  refine gX_down C h d_X_cell_14 ?_
  refine lv_iload_n hx hb d_X_cell_17 rfl (lv_at hl 2 rfl) ?_
  refine lv_bipush (v := nI 28) hx hb d_X_cell_18 (by decide) ?_
  refine ni_mul hx hb d_X_cell_20 ?_
  refine lv_iload_n hx hb d_X_cell_21 rfl (lv_at hl 4 rfl) ?_
  refine ni_add hx hb d_X_cell_22 ?_
  refine lX_down C h ((β * 28) + j) (by omega) d_X_cell_23 ?_
  refine lv_istore (lv' := [(5, .int (fD ((β * 28) + j))), (4, .int (fR ((β * 20) + i))), (0, .ref (q 0)), (1, .int (nI β)), (2, .int (nI i)), (3, .int (nI j))]) hx hb d_X_cell_24 hl (by decide) rfl (fun ls hl => ?_)
  refine lv_aload_n hx hb d_X_cell_26 rfl (lv_at hl 2 rfl) ?_
  refine lv_iload_n hx hb d_X_cell_27 rfl (lv_at hl 3 rfl) ?_
  refine lv_iload_n hx hb d_X_cell_28 rfl (lv_at hl 4 rfl) ?_
  refine ck_i (n := 2) (ci := 0) (rest := []) C h (c_X_letterA hβ hi) rfl rfl (tb_goodIn tl_X_32 ti_X_letterA ts_X_letterA tn_X tc_X_letterA) (by decide +kernel) ⟨Nat.le_of_ble_eq_true rfl, Nat.le_of_ble_eq_true rfl⟩ rfl hl rfl (Nat.le_of_ble_eq_true rfl) ⟨Nat.zero_le _, Nat.zero_le _⟩ d_X_cell_29 (fun r u H locs hA h => ?_)
  refine lv_istore (lv' := [(6, .int r), (5, .int (fD ((β * 28) + j))), (4, .int (fR ((β * 20) + i))), (0, .ref (q 0)), (1, .int (nI β)), (2, .int (nI i)), (3, .int (nI j))]) hx hb d_X_cell_32 hl (by decide) rfl (fun ls hl => ?_)
  refine lv_aload_n hx hb d_X_cell_34 rfl (lv_at hl 3 rfl) ?_
  refine lv_iload_n hx hb d_X_cell_35 rfl (lv_at hl 4 rfl) ?_
  refine lv_iload_n hx hb d_X_cell_36 rfl (lv_at hl 6 rfl) ?_
  refine ck_i (n := 2) (ci := 0) (rest := []) C h (c_X_letterB hβ hn hj) rfl rfl (tb_goodIn tl_X_36 ti_X_letterB ts_X_letterB tn_X tc_X_letterB) (by decide +kernel) ⟨Nat.le_of_ble_eq_true rfl, Nat.le_of_ble_eq_true rfl⟩ rfl hl rfl (Nat.le_of_ble_eq_true rfl) ⟨Nat.zero_le _, Nat.zero_le _⟩ d_X_cell_37 (fun r2 u H locs hB h => ?_)
  subst hA; subst hB
  refine lv_istore (lv' := [(7, .int (sw_lB fb n β j)), (6, .int (sw_lA fa β i)), (5, .int (fD ((β * 28) + j))), (4, .int (fR ((β * 20) + i))), (0, .ref (q 0)), (1, .int (nI β)), (2, .int (nI i)), (3, .int (nI j))]) hx hb d_X_cell_40 hl (by decide) rfl (fun ls hl => ?_)
  refine lv_iload hx hb d_X_cell_42 (lv_at hl 1 rfl) ?_
  refine lv_iload hx hb d_X_cell_44 (lv_at hl 0 rfl) ?_
  refine lv_icmp_eq (tgt := 56) hx hb d_X_cell_46 (by decide) (fun c1 => ?_) (fun c1 => ?_)
  · refine lv_aload_n hx hb d_X_cell_56 rfl (lv_at hl 4 rfl) ?_
    refine gX_right C h d_X_cell_57 ?_
    refine lv_iload_n hx hb d_X_cell_60 rfl (lv_at hl 5 rfl) ?_
    refine lv_bipush (v := nI 20) hx hb d_X_cell_61 (by decide) ?_
    refine ni_mul hx hb d_X_cell_63 ?_
    refine lv_iload_n hx hb d_X_cell_64 rfl (lv_at hl 6 rfl) ?_
    refine ni_add hx hb d_X_cell_65 ?_
    refine lv_iload hx hb d_X_cell_66 (lv_at hl 2 rfl) ?_
    refine sX_right C h ((β * 20) + i) (by omega) d_X_cell_68 (fun H locs h => ?_)
    refine lv_aload_n hx hb d_X_cell_69 rfl (lv_at hl 4 rfl) ?_
    refine gX_down C h d_X_cell_70 ?_
    refine lv_iload_n hx hb d_X_cell_73 rfl (lv_at hl 5 rfl) ?_
    refine lv_bipush (v := nI 28) hx hb d_X_cell_74 (by decide) ?_
    refine ni_mul hx hb d_X_cell_76 ?_
    refine lv_iload_n hx hb d_X_cell_77 rfl (lv_at hl 7 rfl) ?_
    refine ni_add hx hb d_X_cell_78 ?_
    refine lv_iload hx hb d_X_cell_79 (lv_at hl 3 rfl) ?_
    refine sX_down C h ((β * 28) + j) (by omega) d_X_cell_81 (fun H locs h => ?_)
    exact hret (upd fR ((β * 20) + i) (fD ((β * 28) + j)), upd fD ((β * 28) + j) (fR ((β * 20) + i))) _ _ _ _ d_X_cell_82 (by unfold sw_ce; rw [if_pos (Or.inl c1)]) h
  · refine lv_iload hx hb d_X_cell_49 (lv_at hl 3 rfl) ?_
    refine lv_iload hx hb d_X_cell_51 (lv_at hl 2 rfl) ?_
    refine lv_icmp_le (tgt := 82) hx hb d_X_cell_53 (by decide) (fun c2 => ?_) (fun c2 => ?_)
    · exact hret (fR, fD) _ _ _ _ d_X_cell_82 (by unfold sw_ce; rw [if_neg (fun z => z.elim c1 (sw_nlt.mpr c2))]) h
    · refine lv_aload_n hx hb d_X_cell_56 rfl (lv_at hl 4 rfl) ?_
      refine gX_right C h d_X_cell_57 ?_
      refine lv_iload_n hx hb d_X_cell_60 rfl (lv_at hl 5 rfl) ?_
      refine lv_bipush (v := nI 20) hx hb d_X_cell_61 (by decide) ?_
      refine ni_mul hx hb d_X_cell_63 ?_
      refine lv_iload_n hx hb d_X_cell_64 rfl (lv_at hl 6 rfl) ?_
      refine ni_add hx hb d_X_cell_65 ?_
      refine lv_iload hx hb d_X_cell_66 (lv_at hl 2 rfl) ?_
      refine sX_right C h ((β * 20) + i) (by omega) d_X_cell_68 (fun H locs h => ?_)
      refine lv_aload_n hx hb d_X_cell_69 rfl (lv_at hl 4 rfl) ?_
      refine gX_down C h d_X_cell_70 ?_
      refine lv_iload_n hx hb d_X_cell_73 rfl (lv_at hl 5 rfl) ?_
      refine lv_bipush (v := nI 28) hx hb d_X_cell_74 (by decide) ?_
      refine ni_mul hx hb d_X_cell_76 ?_
      refine lv_iload_n hx hb d_X_cell_77 rfl (lv_at hl 7 rfl) ?_
      refine ni_add hx hb d_X_cell_78 ?_
      refine lv_iload hx hb d_X_cell_79 (lv_at hl 3 rfl) ?_
      refine sX_down C h ((β * 28) + j) (by omega) d_X_cell_81 (fun H locs h => ?_)
      exact hret (upd fR ((β * 20) + i) (fD ((β * 28) + j)), upd fD ((β * 28) + j) (fR ((β * 20) + i))) _ _ _ _ d_X_cell_82 (by unfold sw_ce; rw [if_pos (Or.inr (sw_nle.mp c2))]) h

set_option maxHeartbeats 4000000 in
set_option maxRecDepth 100000 in
theorem c_X_addRow {mv : Int32} {fa fb fr fc fR fD : Nat → Int32} {n : Nat} {β M N : Nat} (hn : n ≤ 14) (hM : (β = 1 ∧ M < 20) ∨ (β ≠ 1 ∧ M < 10)) (hN : (β = 0 ∧ N ≤ 14) ∨ (β = 1 ∧ N ≤ 28) ∨ (β = 2 ∧ N ≤ 2 * n)) (hr : fr β = nI M) (hc : fc β = nI N) (hcb : sw_cb (sw_lA fa β) (sw_lB fb n β) β M N fR fD) : MKv 2 y_X_addRow b_X_addRow 4 [.int (nI β)] (XW mv (nI n) fa fb fr fc fR fD) (fun u : (Nat → Int32) × (Nat → Int32) => sw_cb (sw_lA fa β) (sw_lB fb n β) β (M + 1) N u.1 u.2 ∧ sw_kp β fR fD u.1 u.2) (fun u => XW mv (nI n) fa fb (upd fr β (nI (M + 1))) fc u.1 u.2) := by
  refine ok_v (own := R_X) (by decide) rfl (fun _ => Nat.le_of_ble_eq_true rfl) ?_
  intro l dC dI q cA p e s mi args below meth c A ls Q C hret h hl
  have hx := C.1
  have hb := C.2.1
  have hl : lv_has ls 4 [(0, .ref (q 0)), (1, .int (nI β))] := hl
  have hβ : β < 3 := by omega
  have hM20 : M < 20 := by omega
  have hN28 : N ≤ 28 := by omega
  refine lv_aload_n hx hb d_X_addRow_0 rfl (lv_at hl 0 rfl) ?_
  refine gX_rows C h d_X_addRow_1 ?_
  refine lv_iload_n hx hb d_X_addRow_4 rfl (lv_at hl 1 rfl) ?_
  refine lX_rows C h (β) (by omega) d_X_addRow_5 ?_
  refine ni_top (y := nI M) (hr) ?_
  refine lv_istore_n (lv' := [(2, .int (nI M)), (0, .ref (q 0)), (1, .int (nI β))]) hx hb d_X_addRow_6 rfl hl (by decide) rfl (fun ls hl => ?_)
  refine lv_aload_n hx hb d_X_addRow_7 rfl (lv_at hl 1 rfl) ?_
  refine gX_right C h d_X_addRow_8 ?_
  refine lv_iload_n hx hb d_X_addRow_11 rfl (lv_at hl 2 rfl) ?_
  refine lv_bipush (v := nI 20) hx hb d_X_addRow_12 (by decide) ?_
  refine ni_mul hx hb d_X_addRow_14 ?_
  refine lv_iload_n hx hb d_X_addRow_15 rfl (lv_at hl 0 rfl) ?_
  refine ni_add hx hb d_X_addRow_16 ?_
  refine lv_iconst (v := (-1)) hx hb d_X_addRow_17 (by decide) ?_
  refine lv_iload_n hx hb d_X_addRow_18 rfl (lv_at hl 0 rfl) ?_
  refine lv_isub hx hb d_X_addRow_19 ?_
  refine sX_right C h ((β * 20) + M) (by omega) d_X_addRow_20 (fun H locs h => ?_)
  refine lv_aload_n hx hb d_X_addRow_21 rfl (lv_at hl 1 rfl) ?_
  refine gX_rows C h d_X_addRow_22 ?_
  refine lv_iload_n hx hb d_X_addRow_25 rfl (lv_at hl 2 rfl) ?_
  refine lv_iload_n hx hb d_X_addRow_26 rfl (lv_at hl 0 rfl) ?_
  refine lv_iconst (v := nI 1) hx hb d_X_addRow_27 (by decide) ?_
  refine ni_add hx hb d_X_addRow_28 ?_
  refine sX_rows C h (β) (by omega) d_X_addRow_29 (fun H locs h => ?_)
  refine lv_iconst (v := nI 0) hx hb d_X_addRow_30 (by decide) ?_
  refine lv_istore_n (lv' := [(3, .int (nI 0)), (2, .int (nI M)), (0, .ref (q 0)), (1, .int (nI β))]) hx hb d_X_addRow_31 rfl hl (by decide) rfl (fun ls hl => ?_)
  have hc2 : (upd fr β (nI (M + 1))) β = nI (M + 1) := pk_us
  have loop : ∀ (fuel : Nat) (j : Nat) (R D : Nat → Int32), j ≤ N → N + 1 ≤ j + fuel → (sw_mr (sw_lA fa β) (sw_lB fb n β) β M N j fR fD R D) → ∀ (H : Heap) (locs : List Loc) (ls : Array Slot), WK s dC dI A (XW mv (nI n) fa fb (upd fr β (nI (M + 1))) fc R D q cA) H locs → lv_has ls 4 [(0, .ref (q 0)), (1, .int (nI β)), (2, .int (nI M)), (3, .int (nI j))] → W p l e (rm_L 2) s mi args below meth c H locs 0 0 Q (F0 mi 32 ls []) := by
    intro fuel
    induction fuel with
    | zero => intro j R D hle hfu; exact absurd hfu (by omega)
    | succ fuel ih_loop =>
      intro j R D hle hfu hm H locs ls h hl
      refine lv_iload_n hx hb d_X_addRow_32 rfl (lv_at hl 3 rfl) ?_
      refine lv_aload_n hx hb d_X_addRow_33 rfl (lv_at hl 0 rfl) ?_
      refine gX_columns C h d_X_addRow_34 ?_
      refine lv_iload_n hx hb d_X_addRow_37 rfl (lv_at hl 1 rfl) ?_
      refine lX_columns C h (β) (by omega) d_X_addRow_38 ?_
      refine ni_top (y := nI N) (hc) ?_
      refine nb_ge (tgt := 55) hx hb (by omega) (by omega) d_X_addRow_39 (by decide) (fun cj => ?_) (fun cj => ?_)
      · obtain rfl : N = j := by omega
        exact hret (R, D) _ _ _ _ d_X_addRow_55 (sw_mr_e hm) h
      · refine lv_aload_n hx hb d_X_addRow_42 rfl (lv_at hl 0 rfl) ?_
        refine lv_iload_n hx hb d_X_addRow_43 rfl (lv_at hl 1 rfl) ?_
        refine lv_iload_n hx hb d_X_addRow_44 rfl (lv_at hl 2 rfl) ?_
        refine lv_iload_n hx hb d_X_addRow_45 rfl (lv_at hl 3 rfl) ?_
        refine ck_v (n := 3) (ci := 0) (rest := []) C h (c_X_cell hn (by omega) (by omega)) rfl rfl (tb_goodIn tl_X_39 ti_X_cell ts_X_cell tn_X tc_X_cell) (by decide +kernel) ⟨Nat.le_of_ble_eq_true rfl, Nat.le_of_ble_eq_true rfl⟩ rfl hl rfl (Nat.le_of_ble_eq_true rfl) ⟨Nat.zero_le _, Nat.zero_le _⟩ d_X_addRow_46 (fun u H locs hp h => ?_)
        obtain ⟨R2, D2⟩ := u
        have hm2 := sw_mr_s hm cj hM20 hN28
        rw [← hp] at hm2
        refine ni_iinc (k := 3) (lv' := [(3, .int (nI (j + 1))), (0, .ref (q 0)), (1, .int (nI β)), (2, .int (nI M))]) hx hb d_X_addRow_49 hl rfl (by decide) rfl (fun ls hl => ?_)
        refine lv_goto (tgt := 32) hx hb d_X_addRow_52 (by decide) ?_
        exact ih_loop (j + 1) R2 D2 (by omega) (by omega) (hm2) _ _ _ h (lv_sub hl [1, 2, 3, 0] rfl)
  exact loop (N + 1) 0 _ _ (by omega) (by omega) (sw_mr_0 hcb hM20) _ _ _ h (lv_sub hl [2, 3, 1, 0] rfl)

set_option maxHeartbeats 4000000 in
set_option maxRecDepth 100000 in
theorem c_X_addColumn {mv : Int32} {fa fb fr fc fR fD : Nat → Int32} {n : Nat} {β M N : Nat} (hn : n ≤ 14) (hM : (β = 1 ∧ M ≤ 20) ∨ (β ≠ 1 ∧ M ≤ 10)) (hN : (β = 0 ∧ N < 14) ∨ (β = 1 ∧ N < 28) ∨ (β = 2 ∧ N < 2 * n)) (hr : fr β = nI M) (hc : fc β = nI N) (hcb : sw_cb (sw_lA fa β) (sw_lB fb n β) β M N fR fD) : MKv 2 y_X_addColumn b_X_addColumn 4 [.int (nI β)] (XW mv (nI n) fa fb fr fc fR fD) (fun u : (Nat → Int32) × (Nat → Int32) => sw_cb (sw_lA fa β) (sw_lB fb n β) β M (N + 1) u.1 u.2 ∧ sw_kp β fR fD u.1 u.2) (fun u => XW mv (nI n) fa fb fr (upd fc β (nI (N + 1))) u.1 u.2) := by
  refine ok_v (own := R_X) (by decide) rfl (fun _ => Nat.le_of_ble_eq_true rfl) ?_
  intro l dC dI q cA p e s mi args below meth c A ls Q C hret h hl
  have hx := C.1
  have hb := C.2.1
  have hl : lv_has ls 4 [(0, .ref (q 0)), (1, .int (nI β))] := hl
  have hβ : β < 3 := by omega
  have hM20 : M ≤ 20 := by omega
  have hN28 : N < 28 := by omega
  refine lv_aload_n hx hb d_X_addColumn_0 rfl (lv_at hl 0 rfl) ?_
  refine gX_columns C h d_X_addColumn_1 ?_
  refine lv_iload_n hx hb d_X_addColumn_4 rfl (lv_at hl 1 rfl) ?_
  refine lX_columns C h (β) (by omega) d_X_addColumn_5 ?_
  refine ni_top (y := nI N) (hc) ?_
  refine lv_istore_n (lv' := [(2, .int (nI N)), (0, .ref (q 0)), (1, .int (nI β))]) hx hb d_X_addColumn_6 rfl hl (by decide) rfl (fun ls hl => ?_)
  refine lv_aload_n hx hb d_X_addColumn_7 rfl (lv_at hl 1 rfl) ?_
  refine gX_down C h d_X_addColumn_8 ?_
  refine lv_iload_n hx hb d_X_addColumn_11 rfl (lv_at hl 2 rfl) ?_
  refine lv_bipush (v := nI 28) hx hb d_X_addColumn_12 (by decide) ?_
  refine ni_mul hx hb d_X_addColumn_14 ?_
  refine lv_iload_n hx hb d_X_addColumn_15 rfl (lv_at hl 0 rfl) ?_
  refine ni_add hx hb d_X_addColumn_16 ?_
  refine lv_iload_n hx hb d_X_addColumn_17 rfl (lv_at hl 0 rfl) ?_
  refine sX_down C h ((β * 28) + N) (by omega) d_X_addColumn_18 (fun H locs h => ?_)
  refine lv_aload_n hx hb d_X_addColumn_19 rfl (lv_at hl 1 rfl) ?_
  refine gX_columns C h d_X_addColumn_20 ?_
  refine lv_iload_n hx hb d_X_addColumn_23 rfl (lv_at hl 2 rfl) ?_
  refine lv_iload_n hx hb d_X_addColumn_24 rfl (lv_at hl 0 rfl) ?_
  refine lv_iconst (v := nI 1) hx hb d_X_addColumn_25 (by decide) ?_
  refine ni_add hx hb d_X_addColumn_26 ?_
  refine sX_columns C h (β) (by omega) d_X_addColumn_27 (fun H locs h => ?_)
  refine lv_iconst (v := nI 0) hx hb d_X_addColumn_28 (by decide) ?_
  refine lv_istore_n (lv' := [(3, .int (nI 0)), (2, .int (nI N)), (0, .ref (q 0)), (1, .int (nI β))]) hx hb d_X_addColumn_29 rfl hl (by decide) rfl (fun ls hl => ?_)
  have loop : ∀ (fuel : Nat) (j : Nat) (R D : Nat → Int32), j ≤ M → M + 1 ≤ j + fuel → (sw_mc (sw_lA fa β) (sw_lB fb n β) β M N j fR fD R D) → ∀ (H : Heap) (locs : List Loc) (ls : Array Slot), WK s dC dI A (XW mv (nI n) fa fb fr (upd fc β (nI (N + 1))) R D q cA) H locs → lv_has ls 4 [(0, .ref (q 0)), (1, .int (nI β)), (2, .int (nI N)), (3, .int (nI j))] → W p l e (rm_L 2) s mi args below meth c H locs 0 0 Q (F0 mi 30 ls []) := by
    intro fuel
    induction fuel with
    | zero => intro j R D hle hfu; exact absurd hfu (by omega)
    | succ fuel ih_loop =>
      intro j R D hle hfu hm H locs ls h hl
      refine lv_iload_n hx hb d_X_addColumn_30 rfl (lv_at hl 3 rfl) ?_
      refine lv_aload_n hx hb d_X_addColumn_31 rfl (lv_at hl 0 rfl) ?_
      refine gX_rows C h d_X_addColumn_32 ?_
      refine lv_iload_n hx hb d_X_addColumn_35 rfl (lv_at hl 1 rfl) ?_
      refine lX_rows C h (β) (by omega) d_X_addColumn_36 ?_
      refine ni_top (y := nI M) (hr) ?_
      refine nb_ge (tgt := 53) hx hb (by omega) (by omega) d_X_addColumn_37 (by decide) (fun cj => ?_) (fun cj => ?_)
      · obtain rfl : M = j := by omega
        exact hret (R, D) _ _ _ _ d_X_addColumn_53 (sw_mc_e hm) h
      · refine lv_aload_n hx hb d_X_addColumn_40 rfl (lv_at hl 0 rfl) ?_
        refine lv_iload_n hx hb d_X_addColumn_41 rfl (lv_at hl 1 rfl) ?_
        refine lv_iload_n hx hb d_X_addColumn_42 rfl (lv_at hl 3 rfl) ?_
        refine lv_iload_n hx hb d_X_addColumn_43 rfl (lv_at hl 2 rfl) ?_
        refine ck_v (n := 3) (ci := 0) (rest := []) C h (c_X_cell hn (by omega) (by omega)) rfl rfl (tb_goodIn tl_X_39 ti_X_cell ts_X_cell tn_X tc_X_cell) (by decide +kernel) ⟨Nat.le_of_ble_eq_true rfl, Nat.le_of_ble_eq_true rfl⟩ rfl hl rfl (Nat.le_of_ble_eq_true rfl) ⟨Nat.zero_le _, Nat.zero_le _⟩ d_X_addColumn_44 (fun u H locs hp h => ?_)
        obtain ⟨R2, D2⟩ := u
        have hm2 := sw_mc_s hm cj hM20 hN28
        rw [← hp] at hm2
        refine ni_iinc (k := 3) (lv' := [(3, .int (nI (j + 1))), (0, .ref (q 0)), (1, .int (nI β)), (2, .int (nI N))]) hx hb d_X_addColumn_47 hl rfl (by decide) rfl (fun ls hl => ?_)
        refine lv_goto (tgt := 30) hx hb d_X_addColumn_50 (by decide) ?_
        exact ih_loop (j + 1) R2 D2 (by omega) (by omega) (hm2) _ _ _ h (lv_sub hl [1, 2, 3, 0] rfl)
  exact loop (M + 1) 0 _ _ (by omega) (by omega) (sw_mc_0 hcb hN28) _ _ _ h (lv_sub hl [2, 3, 1, 0] rfl)
end
section
/-! THE CLASS, 2: combAll, combAgain, common, tests; printed by the walker -/
set_option maxHeartbeats 4000000 in
set_option maxRecDepth 100000 in
theorem c_X_combAll {mv : Int32} {fa fb fr fc fR fD : Nat → Int32} {n : Nat} {β M N : Nat} (hβ : β < 3) (hn : n ≤ 14) (hM : (β = 1 ∧ M ≤ 20) ∨ (β ≠ 1 ∧ M ≤ 10)) (hN : (β = 0 ∧ N ≤ 14) ∨ (β = 1 ∧ N ≤ 28) ∨ (β = 2 ∧ N ≤ 2 * n)) : MKv 3 y_X_combAll b_X_combAll 5 [.int (nI β), .int (nI M), .int (nI N)] (XW mv (nI n) fa fb fr fc fR fD) (fun u : (Nat → Int32) × (Nat → Int32) => sw_cb (sw_lA fa β) (sw_lB fb n β) β M N u.1 u.2 ∧ sw_kp β fR fD u.1 u.2) (fun u => XW mv (nI n) fa fb (upd fr β (nI M)) (upd fc β (nI N)) u.1 u.2) := by
  refine ok_v (own := R_X) (by decide) rfl (fun _ => Nat.le_of_ble_eq_true rfl) ?_
  intro l dC dI q cA p e s mi args below meth c A ls Q C hret h hl
  have hx := C.1
  have hb := C.2.1
  have hl : lv_has ls 5 [(0, .ref (q 0)), (1, .int (nI β)), (2, .int (nI M)), (3, .int (nI N))] := hl
  refine lv_aload_n hx hb d_X_combAll_0 rfl (lv_at hl 0 rfl) ?_
  refine gX_rows C h d_X_combAll_1 ?_
  refine lv_iload_n hx hb d_X_combAll_4 rfl (lv_at hl 1 rfl) ?_
  refine lv_iconst (v := nI 0) hx hb d_X_combAll_5 (by decide) ?_
  refine sX_rows C h (β) (by omega) d_X_combAll_6 (fun H locs h => ?_)
  refine lv_aload_n hx hb d_X_combAll_7 rfl (lv_at hl 0 rfl) ?_
  refine gX_columns C h d_X_combAll_8 ?_
  refine lv_iload_n hx hb d_X_combAll_11 rfl (lv_at hl 1 rfl) ?_
  refine lv_iconst (v := nI 0) hx hb d_X_combAll_12 (by decide) ?_
  refine sX_columns C h (β) (by omega) d_X_combAll_13 (fun H locs h => ?_)
  refine lv_iconst (v := nI 0) hx hb d_X_combAll_14 (by decide) ?_
  refine lv_istore (lv' := [(4, .int (nI 0)), (0, .ref (q 0)), (1, .int (nI β)), (2, .int (nI M)), (3, .int (nI N))]) hx hb d_X_combAll_15 hl (by decide) rfl (fun ls hl => ?_)
  have loopB : ∀ (fuel : Nat) (j : Nat) (R D : Nat → Int32), j ≤ N → N + 1 ≤ j + fuel → (sw_cb (sw_lA fa β) (sw_lB fb n β) β M j R D) → (sw_kp β fR fD R D) → ∀ (H : Heap) (locs : List Loc) (ls : Array Slot), WK s dC dI A (XW mv (nI n) fa fb (upd fr β (nI M)) (upd fc β (nI j)) R D q cA) H locs → lv_has ls 5 [(0, .ref (q 0)), (1, .int (nI β)), (2, .int (nI M)), (3, .int (nI N)), (4, .int (nI j))] → W p l e (rm_L 3) s mi args below meth c H locs 0 0 Q (F0 mi 37 ls []) := by
    intro fuel
    induction fuel with
    | zero => intro j R D hle hfu; exact absurd hfu (by omega)
    | succ fuel ih_loopB =>
      intro j R D hle hfu hcb hkp H locs ls h hl
      refine lv_iload hx hb d_X_combAll_37 (lv_at hl 4 rfl) ?_
      refine lv_iload_n hx hb d_X_combAll_39 rfl (lv_at hl 3 rfl) ?_
      refine nb_ge (tgt := 54) hx hb (by omega) (by omega) d_X_combAll_40 (by decide) (fun cj => ?_) (fun cj => ?_)
      · obtain rfl : N = j := by omega
        exact hret (R, D) _ _ _ _ d_X_combAll_54 (⟨hcb, hkp⟩) h
      · refine lv_aload_n hx hb d_X_combAll_43 rfl (lv_at hl 0 rfl) ?_
        refine lv_iload_n hx hb d_X_combAll_44 rfl (lv_at hl 1 rfl) ?_
        refine ck_v (n := 1) (ci := 0) (rest := []) C h (c_X_addColumn (M := M) (N := j) hn (by omega) (by omega) pk_us pk_us hcb) rfl rfl (tb_goodIn tl_X_47 ti_X_addColumn ts_X_addColumn tn_X tc_X_addColumn) (by decide +kernel) ⟨Nat.le_of_ble_eq_true rfl, Nat.le_of_ble_eq_true rfl⟩ rfl hl rfl (Nat.le_of_ble_eq_true rfl) ⟨Nat.zero_le _, Nat.zero_le _⟩ d_X_combAll_45 (fun u H locs hp h => ?_)
        obtain ⟨R2, D2⟩ := u
        rw [sw_uu] at h
        refine ni_iinc (k := 4) (lv' := [(4, .int (nI (j + 1))), (0, .ref (q 0)), (1, .int (nI β)), (2, .int (nI M)), (3, .int (nI N))]) hx hb d_X_combAll_48 hl rfl (by decide) rfl (fun ls hl => ?_)
        refine lv_goto (tgt := 37) hx hb d_X_combAll_51 (by decide) ?_
        exact ih_loopB (j + 1) R2 D2 (by omega) (by omega) (hp.1) (sw_kp_tr hkp hp.2) _ _ _ h (lv_sub hl [1, 2, 3, 4, 0] rfl)
  have loopA : ∀ (fuel : Nat) (i : Nat) (R D : Nat → Int32), i ≤ M → M + 1 ≤ i + fuel → (sw_cb (sw_lA fa β) (sw_lB fb n β) β i 0 R D) → (sw_kp β fR fD R D) → ∀ (H : Heap) (locs : List Loc) (ls : Array Slot), WK s dC dI A (XW mv (nI n) fa fb (upd fr β (nI i)) (upd fc β (nI 0)) R D q cA) H locs → lv_has ls 5 [(0, .ref (q 0)), (1, .int (nI β)), (2, .int (nI M)), (3, .int (nI N)), (4, .int (nI i))] → W p l e (rm_L 3) s mi args below meth c H locs 0 0 Q (F0 mi 17 ls []) := by
    intro fuel
    induction fuel with
    | zero => intro i R D hle hfu; exact absurd hfu (by omega)
    | succ fuel ih_loopA =>
      intro i R D hle hfu hcb hkp H locs ls h hl
      refine lv_iload hx hb d_X_combAll_17 (lv_at hl 4 rfl) ?_
      refine lv_iload_n hx hb d_X_combAll_19 rfl (lv_at hl 2 rfl) ?_
      refine nb_ge (tgt := 34) hx hb (by omega) (by omega) d_X_combAll_20 (by decide) (fun ci => ?_) (fun ci => ?_)
      · obtain rfl : M = i := by omega
        refine lv_iconst (v := nI 0) hx hb d_X_combAll_34 (by decide) ?_
        refine lv_istore (lv' := [(4, .int (nI 0)), (0, .ref (q 0)), (1, .int (nI β)), (2, .int (nI M)), (3, .int (nI N))]) hx hb d_X_combAll_35 hl (by decide) rfl (fun ls hl => ?_)
        exact loopB (N + 1) 0 R D (by omega) (by omega) (hcb) (hkp) _ _ _ h (lv_sub hl [1, 2, 3, 4, 0] rfl)
      · refine lv_aload_n hx hb d_X_combAll_23 rfl (lv_at hl 0 rfl) ?_
        refine lv_iload_n hx hb d_X_combAll_24 rfl (lv_at hl 1 rfl) ?_
        refine ck_v (n := 1) (ci := 0) (rest := []) C h (c_X_addRow (M := i) (N := 0) hn (by omega) (by omega) pk_us pk_us hcb) rfl rfl (tb_goodIn tl_X_43 ti_X_addRow ts_X_addRow tn_X tc_X_addRow) (by decide +kernel) ⟨Nat.le_of_ble_eq_true rfl, Nat.le_of_ble_eq_true rfl⟩ rfl hl rfl (Nat.le_of_ble_eq_true rfl) ⟨Nat.zero_le _, Nat.zero_le _⟩ d_X_combAll_25 (fun u H locs hp h => ?_)
        obtain ⟨R2, D2⟩ := u
        rw [sw_uu] at h
        refine ni_iinc (k := 4) (lv' := [(4, .int (nI (i + 1))), (0, .ref (q 0)), (1, .int (nI β)), (2, .int (nI M)), (3, .int (nI N))]) hx hb d_X_combAll_28 hl rfl (by decide) rfl (fun ls hl => ?_)
        refine lv_goto (tgt := 17) hx hb d_X_combAll_31 (by decide) ?_
        exact ih_loopA (i + 1) R2 D2 (by omega) (by omega) (hp.1) (sw_kp_tr hkp hp.2) _ _ _ h (lv_sub hl [1, 2, 3, 4, 0] rfl)
  exact loopA (M + 1) 0 fR fD (by omega) (by omega) (sw_cb_00 _ _ _ _ _) (sw_kp_rf _ _ _) _ _ _ h (lv_sub hl [1, 2, 3, 4, 0] rfl)

set_option maxHeartbeats 4000000 in
set_option maxRecDepth 100000 in
theorem c_X_combAgain {fa fb fr fc fR fD : Nat → Int32} {m n : Nat} (hm : m ≤ 10) (hn : n ≤ 14) : MKv 4 y_X_combAgain b_X_combAgain 1 [] (XW (nI m) (nI n) fa fb fr fc fR fD) (fun u : (Nat → Int32) × (Nat → Int32) × (Nat → Int32) × (Nat → Int32) => sw_inv m n fa fb u.1 u.2.1 u.2.2.1 u.2.2.2) (fun u => XW (nI m) (nI n) fa fb u.1 u.2.1 u.2.2.1 u.2.2.2) := by
  refine ok_v (own := R_X) (by decide) rfl (fun _ => Nat.le_of_ble_eq_true rfl) ?_
  intro l dC dI q cA p e s mi args below meth c A ls Q C hret h hl
  have hx := C.1
  have hb := C.2.1
  have hl : lv_has ls 1 [(0, .ref (q 0))] := hl
  refine lv_aload_n hx hb d_X_combAgain_0 rfl (lv_at hl 0 rfl) ?_
  refine lv_iconst (v := nI 0) hx hb d_X_combAgain_1 (by decide) ?_
  refine lv_aload_n hx hb d_X_combAgain_2 rfl (lv_at hl 0 rfl) ?_
  refine gX_m C h d_X_combAgain_3 ?_
  refine lv_aload_n hx hb d_X_combAgain_6 rfl (lv_at hl 0 rfl) ?_
  refine gX_n C h d_X_combAgain_7 ?_
  refine ck_v (n := 3) (ci := 0) (rest := []) C h (c_X_combAll (β := 0) (M := m) (N := n) (by decide) hn (by omega) (by omega)) rfl rfl (tb_goodIn tl_X_53 ti_X_combAll ts_X_combAll tn_X tc_X_combAll) (by decide +kernel) ⟨Nat.le_of_ble_eq_true rfl, Nat.le_of_ble_eq_true rfl⟩ rfl hl rfl (Nat.le_of_ble_eq_true rfl) ⟨Nat.zero_le _, Nat.zero_le _⟩ d_X_combAgain_10 (fun u H locs h0 h => ?_)
  obtain ⟨R1, D1⟩ := u
  refine lv_aload_n hx hb d_X_combAgain_13 rfl (lv_at hl 0 rfl) ?_
  refine lv_iconst (v := nI 1) hx hb d_X_combAgain_14 (by decide) ?_
  refine lv_iconst (v := nI 2) hx hb d_X_combAgain_15 (by decide) ?_
  refine lv_aload_n hx hb d_X_combAgain_16 rfl (lv_at hl 0 rfl) ?_
  refine gX_m C h d_X_combAgain_17 ?_
  refine ni_mul hx hb d_X_combAgain_20 ?_
  refine lv_iconst (v := nI 2) hx hb d_X_combAgain_21 (by decide) ?_
  refine lv_aload_n hx hb d_X_combAgain_22 rfl (lv_at hl 0 rfl) ?_
  refine gX_n C h d_X_combAgain_23 ?_
  refine ni_mul hx hb d_X_combAgain_26 ?_
  refine ck_v (n := 3) (ci := 0) (rest := []) C h (c_X_combAll (β := 1) (M := 2 * m) (N := 2 * n) (by decide) hn (by omega) (by omega)) rfl rfl (tb_goodIn tl_X_53 ti_X_combAll ts_X_combAll tn_X tc_X_combAll) (by decide +kernel) ⟨Nat.le_of_ble_eq_true rfl, Nat.le_of_ble_eq_true rfl⟩ rfl hl rfl (Nat.le_of_ble_eq_true rfl) ⟨Nat.zero_le _, Nat.zero_le _⟩ d_X_combAgain_27 (fun u H locs h1 h => ?_)
  obtain ⟨R2, D2⟩ := u
  exact hret (upd (upd fr 0 (nI m)) 1 (nI (2 * m)), upd (upd fc 0 (nI n)) 1 (nI (2 * n)), R2, D2) _ _ _ _ d_X_combAgain_30 (sw_inv_mk hm hn h0.1 h1.1 h1.2) h

set_option maxHeartbeats 4000000 in
set_option maxRecDepth 100000 in
theorem c_X_common {mv nv : Int32} {fa fb fr fc fR fD : Nat → Int32} {la lb : Nat → Int32} {β M N : Nat} {fv tv : Int32} (hβ : β < 3) (hM : M ≤ 20) (hN : N ≤ 28) (hr : fr β = nI M) (hc : fc β = nI N) (hcb : sw_cb la lb β M N fR fD) : MKi 0 y_X_common b_X_common 7 (some .int) [.int (nI β), .int fv, .int tv] (XW mv nv fa fb fr fc fR fD) (fun r (_ : Unit) => r = sw_cm la lb M N fv tv) (fun (_ : Unit) => XW mv nv fa fb fr fc fR fD) := by
  refine ok_i (own := R_X) (by decide) rfl (fun _ => Nat.le_of_ble_eq_true rfl) ?_
  intro l dC dI q cA p e s mi args below meth c A ls Q C hret h hl
  have hx := C.1
  have hb := C.2.1
  have hl : lv_has ls 7 [(0, .ref (q 0)), (1, .int (nI β)), (2, .int fv), (3, .int tv)] := hl
  have hpr : ∀ x y : Int32, x = y → y = x := fun _ _ z => z.symm
  refine lv_iconst (v := nI 0) hx hb d_X_common_0 (by decide) ?_
  refine lv_istore (lv' := [(4, .int (nI 0)), (0, .ref (q 0)), (1, .int (nI β)), (2, .int fv), (3, .int tv)]) hx hb d_X_common_1 hl (by decide) rfl (fun ls hl => ?_)
  refine lv_aload_n hx hb d_X_common_3 rfl (lv_at hl 1 rfl) ?_
  refine gX_columns C h d_X_common_4 ?_
  refine lv_iload_n hx hb d_X_common_7 rfl (lv_at hl 2 rfl) ?_
  refine lX_columns C h (β) (by omega) d_X_common_8 ?_
  refine ni_top (y := nI N) (hc) ?_
  refine lv_aload_n hx hb d_X_common_9 rfl (lv_at hl 1 rfl) ?_
  refine gX_rows C h d_X_common_10 ?_
  refine lv_iload_n hx hb d_X_common_13 rfl (lv_at hl 2 rfl) ?_
  refine lX_rows C h (β) (by omega) d_X_common_14 ?_
  refine ni_top (y := nI M) (hr) ?_
  refine lv_iadd hx hb d_X_common_15 ?_
  refine lv_iconst (v := nI 1) hx hb d_X_common_16 (by decide) ?_
  refine lv_isub hx hb d_X_common_17 ?_
  refine ni_top (y := nI N + nI M - 1) (rfl) ?_
  refine lv_istore (lv' := [(5, .int (nI N + nI M - 1)), (4, .int (nI 0)), (0, .ref (q 0)), (1, .int (nI β)), (2, .int fv), (3, .int tv)]) hx hb d_X_common_18 hl (by decide) rfl (fun ls hl => ?_)
  refine lv_iconst (v := nI 0) hx hb d_X_common_20 (by decide) ?_
  refine lv_istore (lv' := [(6, .int (nI 0)), (5, .int (nI N + nI M - 1)), (4, .int (nI 0)), (0, .ref (q 0)), (1, .int (nI β)), (2, .int fv), (3, .int tv)]) hx hb d_X_common_21 hl (by decide) rfl (fun ls hl => ?_)
  have loopR : ∀ (fuel : Nat) (j k : Nat), j ≤ M → M + 1 ≤ j + fuel → (k = sw_cnt (sw_p1 la lb M fv tv) N + sw_cnt (sw_p2 la lb M N fv tv) j) → ∀ (H : Heap) (locs : List Loc) (ls : Array Slot), WK s dC dI A (XW mv nv fa fb fr fc fR fD q cA) H locs → lv_has ls 7 [(0, .ref (q 0)), (1, .int (nI β)), (2, .int fv), (3, .int tv), (4, .int (nI k)), (5, .int (nI N + nI M - 1)), (6, .int (nI j))] → W p l e (rm_L 0) s mi args below meth c H locs 0 0 Q (F0 mi 68 ls []) := by
    intro fuel
    induction fuel with
    | zero => intro j k hle hfu; exact absurd hfu (by omega)
    | succ fuel ih_loopR =>
      intro j k hle hfu hk H locs ls h hl
      refine lv_iload hx hb d_X_common_68 (lv_at hl 6 rfl) ?_
      refine lv_aload_n hx hb d_X_common_70 rfl (lv_at hl 0 rfl) ?_
      refine gX_rows C h d_X_common_71 ?_
      refine lv_iload_n hx hb d_X_common_74 rfl (lv_at hl 1 rfl) ?_
      refine lX_rows C h (β) (by omega) d_X_common_75 ?_
      refine ni_top (y := nI M) (hr) ?_
      refine nb_ge (tgt := 113) hx hb (by omega) (by omega) d_X_common_76 (by decide) (fun cj => ?_) (fun cj => ?_)
      · obtain rfl : M = j := by omega
        refine lv_iload_n hx hb d_X_common_113 rfl (lv_at hl 3 rfl) ?_
        refine lv_iload_n hx hb d_X_common_114 rfl (lv_at hl 2 rfl) ?_
        refine lv_isub hx hb d_X_common_115 ?_
        refine lv_iload hx hb d_X_common_116 (lv_at hl 4 rfl) ?_
        refine lv_isub hx hb d_X_common_118 ?_
        exact hret ((tv - fv) - (nI k)) () _ _ _ _ d_X_common_119 (by rw [hk]; rfl) h
      · refine lv_aload_n hx hb d_X_common_79 rfl (lv_at hl 0 rfl) ?_
        refine gX_right C h d_X_common_80 ?_
        refine lv_iload_n hx hb d_X_common_83 rfl (lv_at hl 1 rfl) ?_
        refine lv_bipush (v := nI 20) hx hb d_X_common_84 (by decide) ?_
        refine ni_mul hx hb d_X_common_86 ?_
        refine lv_iload hx hb d_X_common_87 (lv_at hl 6 rfl) ?_
        refine ni_add hx hb d_X_common_89 ?_
        refine lX_right C h ((β * 20) + j) (by omega) d_X_common_90 ?_
        refine ni_top (y := sw_r la lb j N) (hcb.1 j cj) ?_
        refine lv_iload_n hx hb d_X_common_91 rfl (lv_at hl 2 rfl) ?_
        refine lv_icmp_lt (tgt := 107) hx hb d_X_common_92 (by decide) (fun c1 => ?_) (fun c1 => ?_)
        · refine ni_iinc (k := 6) (lv' := [(6, .int (nI (j + 1))), (0, .ref (q 0)), (1, .int (nI β)), (2, .int fv), (3, .int tv), (4, .int (nI k)), (5, .int (nI N + nI M - 1))]) hx hb d_X_common_107 hl rfl (by decide) rfl (fun ls hl => ?_)
          refine lv_goto (tgt := 68) hx hb d_X_common_110 (by decide) ?_
          exact ih_loopR (j + 1) k (by omega) (by omega) (by rw [hk, sw_cnt_f (sw_p2_f (Or.inl c1))]) _ _ _ h (lv_sub hl [1, 2, 3, 4, 5, 6, 0] rfl)
        · refine lv_iload hx hb d_X_common_95 (lv_at hl 5 rfl) ?_
          refine lv_iload hx hb d_X_common_97 (lv_at hl 6 rfl) ?_
          refine lv_isub hx hb d_X_common_99 ?_
          refine lv_iload_n hx hb d_X_common_100 rfl (lv_at hl 3 rfl) ?_
          refine lv_icmp_ge (tgt := 107) hx hb d_X_common_101 (by decide) (fun c2 => ?_) (fun c2 => ?_)
          · refine ni_iinc (k := 6) (lv' := [(6, .int (nI (j + 1))), (0, .ref (q 0)), (1, .int (nI β)), (2, .int fv), (3, .int tv), (4, .int (nI k)), (5, .int (nI N + nI M - 1))]) hx hb d_X_common_107 hl rfl (by decide) rfl (fun ls hl => ?_)
            refine lv_goto (tgt := 68) hx hb d_X_common_110 (by decide) ?_
            exact ih_loopR (j + 1) k (by omega) (by omega) (by rw [hk, sw_cnt_f (sw_p2_f (Or.inr c2))]) _ _ _ h (lv_sub hl [1, 2, 3, 4, 5, 6, 0] rfl)
          · refine ni_iinc (k := 4) (lv' := [(4, .int (nI (k + 1))), (0, .ref (q 0)), (1, .int (nI β)), (2, .int fv), (3, .int tv), (5, .int (nI N + nI M - 1)), (6, .int (nI j))]) hx hb d_X_common_104 hl rfl (by decide) rfl (fun ls hl => ?_)
            refine ni_iinc (k := 6) (lv' := [(6, .int (nI (j + 1))), (4, .int (nI (k + 1))), (0, .ref (q 0)), (1, .int (nI β)), (2, .int fv), (3, .int tv), (5, .int (nI N + nI M - 1))]) hx hb d_X_common_107 hl rfl (by decide) rfl (fun ls hl => ?_)
            refine lv_goto (tgt := 68) hx hb d_X_common_110 (by decide) ?_
            exact ih_loopR (j + 1) (k + 1) (by omega) (by omega) (by rw [hk, sw_cnt_t (sw_p2_t c1 c2)]; rfl) _ _ _ h (lv_sub hl [2, 3, 4, 5, 1, 6, 0] rfl)
  have loopD : ∀ (fuel : Nat) (j k : Nat), j ≤ N → N + 1 ≤ j + fuel → (k = sw_cnt (sw_p1 la lb M fv tv) j) → ∀ (H : Heap) (locs : List Loc) (ls : Array Slot), WK s dC dI A (XW mv nv fa fb fr fc fR fD q cA) H locs → lv_has ls 7 [(0, .ref (q 0)), (1, .int (nI β)), (2, .int fv), (3, .int tv), (4, .int (nI k)), (5, .int (nI N + nI M - 1)), (6, .int (nI j))] → W p l e (rm_L 0) s mi args below meth c H locs 0 0 Q (F0 mi 23 ls []) := by
    intro fuel
    induction fuel with
    | zero => intro j k hle hfu; exact absurd hfu (by omega)
    | succ fuel ih_loopD =>
      intro j k hle hfu hk H locs ls h hl
      refine lv_iload hx hb d_X_common_23 (lv_at hl 6 rfl) ?_
      refine lv_aload_n hx hb d_X_common_25 rfl (lv_at hl 0 rfl) ?_
      refine gX_columns C h d_X_common_26 ?_
      refine lv_iload_n hx hb d_X_common_29 rfl (lv_at hl 1 rfl) ?_
      refine lX_columns C h (β) (by omega) d_X_common_30 ?_
      refine ni_top (y := nI N) (hc) ?_
      refine nb_ge (tgt := 65) hx hb (by omega) (by omega) d_X_common_31 (by decide) (fun cj => ?_) (fun cj => ?_)
      · obtain rfl : N = j := by omega
        refine lv_iconst (v := nI 0) hx hb d_X_common_65 (by decide) ?_
        refine lv_istore (lv' := [(6, .int (nI 0)), (0, .ref (q 0)), (1, .int (nI β)), (2, .int fv), (3, .int tv), (4, .int (nI k)), (5, .int (nI N + nI M - 1))]) hx hb d_X_common_66 hl (by decide) rfl (fun ls hl => ?_)
        exact loopR (M + 1) 0 k (by omega) (by omega) (hk) _ _ _ h (lv_sub hl [1, 2, 3, 4, 5, 6, 0] rfl)
      · refine lv_aload_n hx hb d_X_common_34 rfl (lv_at hl 0 rfl) ?_
        refine gX_down C h d_X_common_35 ?_
        refine lv_iload_n hx hb d_X_common_38 rfl (lv_at hl 1 rfl) ?_
        refine lv_bipush (v := nI 28) hx hb d_X_common_39 (by decide) ?_
        refine ni_mul hx hb d_X_common_41 ?_
        refine lv_iload hx hb d_X_common_42 (lv_at hl 6 rfl) ?_
        refine ni_add hx hb d_X_common_44 ?_
        refine lX_down C h ((β * 28) + j) (by omega) d_X_common_45 ?_
        refine ni_top (y := sw_v la lb M j) (hcb.2 j cj) ?_
        refine lv_iload_n hx hb d_X_common_46 rfl (lv_at hl 2 rfl) ?_
        refine lv_icmp_lt (tgt := 59) hx hb d_X_common_47 (by decide) (fun c1 => ?_) (fun c1 => ?_)
        · refine ni_iinc (k := 6) (lv' := [(6, .int (nI (j + 1))), (0, .ref (q 0)), (1, .int (nI β)), (2, .int fv), (3, .int tv), (4, .int (nI k)), (5, .int (nI N + nI M - 1))]) hx hb d_X_common_59 hl rfl (by decide) rfl (fun ls hl => ?_)
          refine lv_goto (tgt := 23) hx hb d_X_common_62 (by decide) ?_
          exact ih_loopD (j + 1) k (by omega) (by omega) (by rw [hk, sw_cnt_f (sw_p1_f (Or.inl c1))]) _ _ _ h (lv_sub hl [1, 2, 3, 4, 5, 6, 0] rfl)
        · refine lv_iload hx hb d_X_common_50 (lv_at hl 6 rfl) ?_
          refine lv_iload_n hx hb d_X_common_52 rfl (lv_at hl 3 rfl) ?_
          refine lv_icmp_ge (tgt := 59) hx hb d_X_common_53 (by decide) (fun c2 => ?_) (fun c2 => ?_)
          · refine ni_iinc (k := 6) (lv' := [(6, .int (nI (j + 1))), (0, .ref (q 0)), (1, .int (nI β)), (2, .int fv), (3, .int tv), (4, .int (nI k)), (5, .int (nI N + nI M - 1))]) hx hb d_X_common_59 hl rfl (by decide) rfl (fun ls hl => ?_)
            refine lv_goto (tgt := 23) hx hb d_X_common_62 (by decide) ?_
            exact ih_loopD (j + 1) k (by omega) (by omega) (by rw [hk, sw_cnt_f (sw_p1_f (Or.inr c2))]) _ _ _ h (lv_sub hl [1, 2, 3, 4, 5, 6, 0] rfl)
          · refine ni_iinc (k := 4) (lv' := [(4, .int (nI (k + 1))), (0, .ref (q 0)), (1, .int (nI β)), (2, .int fv), (3, .int tv), (5, .int (nI N + nI M - 1)), (6, .int (nI j))]) hx hb d_X_common_56 hl rfl (by decide) rfl (fun ls hl => ?_)
            refine ni_iinc (k := 6) (lv' := [(6, .int (nI (j + 1))), (4, .int (nI (k + 1))), (0, .ref (q 0)), (1, .int (nI β)), (2, .int fv), (3, .int tv), (5, .int (nI N + nI M - 1))]) hx hb d_X_common_59 hl rfl (by decide) rfl (fun ls hl => ?_)
            refine lv_goto (tgt := 23) hx hb d_X_common_62 (by decide) ?_
            exact ih_loopD (j + 1) (k + 1) (by omega) (by omega) (by rw [hk, sw_cnt_t (sw_p1_t c1 c2)]) _ _ _ h (lv_sub hl [2, 3, 4, 5, 1, 6, 0] rfl)
  exact loopD (N + 1) 0 0 (by omega) (by omega) (rfl) _ _ _ h (lv_sub hl [3, 4, 5, 6, 2, 1, 0] rfl)

set_option maxHeartbeats 4000000 in
set_option maxRecDepth 100000 in
theorem c_X_badLetter {mv nv : Int32} {fa fb fr fc fR fD : Nat → Int32} {x : Int32} : MKi 0 y_X_badLetter b_X_badLetter 2 (some .boolean) [.int x] (XW mv nv fa fb fr fc fR fD) (fun r (_ : Unit) => sw_is (sw_bl x) r) (fun (_ : Unit) => XW mv nv fa fb fr fc fR fD) := by
  refine ok_z (own := R_X) (by decide) rfl (fun _ => Nat.le_of_ble_eq_true rfl) ?_
  intro l dC dI q cA p e s mi args below meth c A ls Q C hret h hl
  have hx := C.1
  have hb := C.2.1
  have hl : lv_has ls 2 [(0, .ref (q 0)), (1, .int x)] := hl
  refine lv_iload_n hx hb d_X_badLetter_0 rfl (lv_at hl 1 rfl) ?_
  refine lv_if_lt (tgt := 9) hx hb d_X_badLetter_1 (by decide) (fun c1 => ?_) (fun c1 => ?_)
  · refine lv_iconst (v := nI 1) hx hb d_X_badLetter_9 (by decide) ?_
    refine lv_goto (tgt := 14) hx hb d_X_badLetter_10 (by decide) ?_
    exact hret (nI 1) () _ _ _ _ d_X_badLetter_14 (rfl) (Or.inl ⟨Or.inl c1, rfl⟩) h
  · refine lv_iload_n hx hb d_X_badLetter_4 rfl (lv_at hl 1 rfl) ?_
    refine lv_iconst (v := nI 3) hx hb d_X_badLetter_5 (by decide) ?_
    refine lv_icmp_le (tgt := 13) hx hb d_X_badLetter_6 (by decide) (fun c2 => ?_) (fun c2 => ?_)
    · refine lv_iconst (v := nI 0) hx hb d_X_badLetter_13 (by decide) ?_
      exact hret (nI 0) () _ _ _ _ d_X_badLetter_14 (rfl) (Or.inr ⟨fun z => z.elim c1 (sw_nlt.mpr c2), rfl⟩) h
    · refine lv_iconst (v := nI 1) hx hb d_X_badLetter_9 (by decide) ?_
      refine lv_goto (tgt := 14) hx hb d_X_badLetter_10 (by decide) ?_
      exact hret (nI 1) () _ _ _ _ d_X_badLetter_14 (rfl) (Or.inl ⟨Or.inr (sw_nle.mp c2), rfl⟩) h

set_option maxHeartbeats 4000000 in
set_option maxRecDepth 100000 in
theorem c_X_badStretch {mv nv : Int32} {fa fb fr fc fR fD : Nat → Int32} {i j x : Int32} : MKi 0 y_X_badStretch b_X_badStretch 4 (some .boolean) [.int i, .int j, .int x] (XW mv nv fa fb fr fc fR fD) (fun r (_ : Unit) => sw_is (sw_bs i j x) r) (fun (_ : Unit) => XW mv nv fa fb fr fc fR fD) := by
  refine ok_z (own := R_X) (by decide) rfl (fun _ => Nat.le_of_ble_eq_true rfl) ?_
  intro l dC dI q cA p e s mi args below meth c A ls Q C hret h hl
  have hx := C.1
  have hb := C.2.1
  have hl : lv_has ls 4 [(0, .ref (q 0)), (1, .int i), (2, .int j), (3, .int x)] := hl
  refine lv_iload_n hx hb d_X_badStretch_0 rfl (lv_at hl 1 rfl) ?_
  refine lv_if_lt (tgt := 14) hx hb d_X_badStretch_1 (by decide) (fun c1 => ?_) (fun c1 => ?_)
  · refine lv_iconst (v := nI 1) hx hb d_X_badStretch_14 (by decide) ?_
    refine lv_goto (tgt := 19) hx hb d_X_badStretch_15 (by decide) ?_
    exact hret (nI 1) () _ _ _ _ d_X_badStretch_19 (rfl) (Or.inl ⟨Or.inl c1, rfl⟩) h
  · refine lv_iload_n hx hb d_X_badStretch_4 rfl (lv_at hl 1 rfl) ?_
    refine lv_iload_n hx hb d_X_badStretch_5 rfl (lv_at hl 2 rfl) ?_
    refine lv_icmp_gt (tgt := 14) hx hb d_X_badStretch_6 (by decide) (fun c2 => ?_) (fun c2 => ?_)
    · refine lv_iconst (v := nI 1) hx hb d_X_badStretch_14 (by decide) ?_
      refine lv_goto (tgt := 19) hx hb d_X_badStretch_15 (by decide) ?_
      exact hret (nI 1) () _ _ _ _ d_X_badStretch_19 (rfl) (Or.inl ⟨Or.inr (Or.inl c2), rfl⟩) h
    · refine lv_iload_n hx hb d_X_badStretch_9 rfl (lv_at hl 2 rfl) ?_
      refine lv_iload_n hx hb d_X_badStretch_10 rfl (lv_at hl 3 rfl) ?_
      refine lv_icmp_le (tgt := 18) hx hb d_X_badStretch_11 (by decide) (fun c3 => ?_) (fun c3 => ?_)
      · refine lv_iconst (v := nI 0) hx hb d_X_badStretch_18 (by decide) ?_
        exact hret (nI 0) () _ _ _ _ d_X_badStretch_19 (rfl) (Or.inr ⟨fun z => z.elim c1 (fun z => z.elim c2 (sw_nlt.mpr c3)), rfl⟩) h
      · refine lv_iconst (v := nI 1) hx hb d_X_badStretch_14 (by decide) ?_
        refine lv_goto (tgt := 19) hx hb d_X_badStretch_15 (by decide) ?_
        exact hret (nI 1) () _ _ _ _ d_X_badStretch_19 (rfl) (Or.inl ⟨Or.inr (Or.inr (sw_nle.mp c3)), rfl⟩) h

set_option maxHeartbeats 4000000 in
set_option maxRecDepth 100000 in
theorem c_X_badCounts {fa fb fr fc fR fD : Nat → Int32} {m n : Nat} {k j : Int32} : MKi 0 y_X_badCounts b_X_badCounts 3 (some .boolean) [.int k, .int j] (XW (nI m) (nI n) fa fb fr fc fR fD) (fun r (_ : Unit) => sw_is (sw_bc k j m n) r) (fun (_ : Unit) => XW (nI m) (nI n) fa fb fr fc fR fD) := by
  refine ok_z (own := R_X) (by decide) rfl (fun _ => Nat.le_of_ble_eq_true rfl) ?_
  intro l dC dI q cA p e s mi args below meth c A ls Q C hret h hl
  have hx := C.1
  have hb := C.2.1
  have hl : lv_has ls 3 [(0, .ref (q 0)), (1, .int k), (2, .int j)] := hl
  refine lv_iload_n hx hb d_X_badCounts_0 rfl (lv_at hl 1 rfl) ?_
  refine lv_if_lt (tgt := 24) hx hb d_X_badCounts_1 (by decide) (fun c1 => ?_) (fun c1 => ?_)
  · refine lv_iconst (v := nI 1) hx hb d_X_badCounts_24 (by decide) ?_
    refine lv_goto (tgt := 29) hx hb d_X_badCounts_25 (by decide) ?_
    exact hret (nI 1) () _ _ _ _ d_X_badCounts_29 (rfl) (Or.inl ⟨Or.inl c1, rfl⟩) h
  · refine lv_iload_n hx hb d_X_badCounts_4 rfl (lv_at hl 1 rfl) ?_
    refine lv_aload_n hx hb d_X_badCounts_5 rfl (lv_at hl 0 rfl) ?_
    refine gX_m C h d_X_badCounts_6 ?_
    refine lv_icmp_gt (tgt := 24) hx hb d_X_badCounts_9 (by decide) (fun c2 => ?_) (fun c2 => ?_)
    · refine lv_iconst (v := nI 1) hx hb d_X_badCounts_24 (by decide) ?_
      refine lv_goto (tgt := 29) hx hb d_X_badCounts_25 (by decide) ?_
      exact hret (nI 1) () _ _ _ _ d_X_badCounts_29 (rfl) (Or.inl ⟨Or.inr (Or.inl c2), rfl⟩) h
    · refine lv_iload_n hx hb d_X_badCounts_12 rfl (lv_at hl 2 rfl) ?_
      refine lv_if_lt (tgt := 24) hx hb d_X_badCounts_13 (by decide) (fun c3 => ?_) (fun c3 => ?_)
      · refine lv_iconst (v := nI 1) hx hb d_X_badCounts_24 (by decide) ?_
        refine lv_goto (tgt := 29) hx hb d_X_badCounts_25 (by decide) ?_
        exact hret (nI 1) () _ _ _ _ d_X_badCounts_29 (rfl) (Or.inl ⟨Or.inr (Or.inr (Or.inl c3)), rfl⟩) h
      · refine lv_iload_n hx hb d_X_badCounts_16 rfl (lv_at hl 2 rfl) ?_
        refine lv_aload_n hx hb d_X_badCounts_17 rfl (lv_at hl 0 rfl) ?_
        refine gX_n C h d_X_badCounts_18 ?_
        refine lv_icmp_le (tgt := 28) hx hb d_X_badCounts_21 (by decide) (fun c4 => ?_) (fun c4 => ?_)
        · refine lv_iconst (v := nI 0) hx hb d_X_badCounts_28 (by decide) ?_
          exact hret (nI 0) () _ _ _ _ d_X_badCounts_29 (rfl) (Or.inr ⟨fun z => z.elim c1 (fun z => z.elim c2 (fun z => z.elim c3 (sw_nlt.mpr c4))), rfl⟩) h
        · refine lv_iconst (v := nI 1) hx hb d_X_badCounts_24 (by decide) ?_
          refine lv_goto (tgt := 29) hx hb d_X_badCounts_25 (by decide) ?_
          exact hret (nI 1) () _ _ _ _ d_X_badCounts_29 (rfl) (Or.inl ⟨Or.inr (Or.inr (Or.inr (sw_nle.mp c4))), rfl⟩) h
end
section
/-! THE CLASS, 3: the words; printed by the walker -/
set_option maxHeartbeats 4000000 in
set_option maxRecDepth 100000 in
theorem c_X_growA {fa fb fr fc fR fD : Nat → Int32} {m n : Nat} {x : Int32} (hv : sw_inv m n fa fb fr fc fR fD) : MKi 3 y_X_growA b_X_growA 2 (some .int) [.int x] (XW (nI m) (nI n) fa fb fr fc fR fD) (fun r (u : sw_T × sw_F) => (r, u.1) = se_growA (m, n, fa, fb) x ∧ sw_invT u.1 u.2) (fun u : sw_T × sw_F => XW (nI u.1.1) (nI u.1.2.1) u.1.2.2.1 u.1.2.2.2 u.2.1 u.2.2.1 u.2.2.2.1 u.2.2.2.2) := by
  refine ok_i (own := R_X) (by decide) rfl (fun _ => Nat.le_of_ble_eq_true rfl) ?_
  intro l dC dI q cA p e s mi args below meth c A ls Q C hret h hl
  have hx := C.1
  have hb := C.2.1
  have hl : lv_has ls 2 [(0, .ref (q 0)), (1, .int x)] := hl
  obtain ⟨hm, hn, hr0, hr1, hc0, hc1, cb0, cb1⟩ := id hv
  refine lv_aload_n hx hb d_X_growA_0 rfl (lv_at hl 0 rfl) ?_
  refine lv_iload_n hx hb d_X_growA_1 rfl (lv_at hl 1 rfl) ?_
  refine ck_i (n := 1) (ci := 0) (rest := []) C h (c_X_badLetter (x := x)) rfl rfl (tb_goodIn tl_X_56 ti_X_badLetter ts_X_badLetter tn_X tc_X_badLetter) (by decide +kernel) ⟨Nat.le_of_ble_eq_true rfl, Nat.le_of_ble_eq_true rfl⟩ rfl hl rfl (Nat.le_of_ble_eq_true rfl) ⟨Nat.zero_le _, Nat.zero_le _⟩ d_X_growA_2 (fun r u H locs hp h => ?_)
  refine lv_if_eq (tgt := 10) hx hb d_X_growA_5 (by decide) (fun c1 => ?_) (fun c1 => ?_)
  · have hg := sw_is_f hp c1
    refine lv_aload_n hx hb d_X_growA_10 rfl (lv_at hl 0 rfl) ?_
    refine gX_m C h d_X_growA_11 ?_
    refine lv_bipush (v := nI 10) hx hb d_X_growA_14 (by decide) ?_
    refine nb_ne (tgt := 22) hx hb (by omega) (by omega) d_X_growA_16 (by decide) (fun c2 => ?_) (fun c2 => ?_)
    · refine lv_aload_n hx hb d_X_growA_22 rfl (lv_at hl 0 rfl) ?_
      refine gX_a C h d_X_growA_23 ?_
      refine lv_aload_n hx hb d_X_growA_26 rfl (lv_at hl 0 rfl) ?_
      refine gX_m C h d_X_growA_27 ?_
      refine lv_iload_n hx hb d_X_growA_30 rfl (lv_at hl 1 rfl) ?_
      refine sX_a C h (m) (by omega) d_X_growA_31 (fun H locs h => ?_)
      refine lv_aload_n hx hb d_X_growA_32 rfl (lv_at hl 0 rfl) ?_
      refine lv_dup hx hb d_X_growA_33 rfl ?_
      refine gX_m C h d_X_growA_34 ?_
      refine lv_iconst (v := nI 1) hx hb d_X_growA_37 (by decide) ?_
      refine ni_add hx hb d_X_growA_38 ?_
      refine pX_m C h d_X_growA_39 (fun H locs h => ?_)
      refine lv_aload_n hx hb d_X_growA_42 rfl (lv_at hl 0 rfl) ?_
      refine lv_iconst (v := nI 0) hx hb d_X_growA_43 (by decide) ?_
      have cbs := sw_inv_row hv x
      refine ck_v (n := 1) (ci := 0) (rest := []) C h (c_X_addRow (fa := upd fa m x) (M := m) (N := n) hn (by omega) (by omega) hr0 hc0 cbs.1) rfl rfl (tb_goodIn tl_X_43 ti_X_addRow ts_X_addRow tn_X tc_X_addRow) (by decide +kernel) ⟨Nat.le_of_ble_eq_true rfl, Nat.le_of_ble_eq_true rfl⟩ rfl hl rfl (Nat.le_of_ble_eq_true rfl) ⟨Nat.zero_le _, Nat.zero_le _⟩ d_X_growA_44 (fun u H locs h0 h => ?_)
      obtain ⟨R1, D1⟩ := u
      refine lv_aload_n hx hb d_X_growA_47 rfl (lv_at hl 0 rfl) ?_
      refine lv_iconst (v := nI 1) hx hb d_X_growA_48 (by decide) ?_
      refine ck_v (n := 1) (ci := 0) (rest := []) C h (c_X_addRow (fa := upd fa m x) (M := 2 * m) (N := 2 * n) hn (by omega) (by omega) ((pk_un (by decide)).trans hr1) hc1 (sw_cb_kp cbs.2 h0.2 (by decide) (by omega) (by omega))) rfl rfl (tb_goodIn tl_X_43 ti_X_addRow ts_X_addRow tn_X tc_X_addRow) (by decide +kernel) ⟨Nat.le_of_ble_eq_true rfl, Nat.le_of_ble_eq_true rfl⟩ rfl hl rfl (Nat.le_of_ble_eq_true rfl) ⟨Nat.zero_le _, Nat.zero_le _⟩ d_X_growA_49 (fun u H locs h1 h => ?_)
      obtain ⟨R2, D2⟩ := u
      refine lv_aload_n hx hb d_X_growA_52 rfl (lv_at hl 0 rfl) ?_
      refine lv_iconst (v := nI 1) hx hb d_X_growA_53 (by decide) ?_
      refine ck_v (n := 1) (ci := 0) (rest := []) C h (c_X_addRow (fa := upd fa m x) (M := 2 * m + 1) (N := 2 * n) hn (by omega) (by omega) pk_us hc1 h1.1) rfl rfl (tb_goodIn tl_X_43 ti_X_addRow ts_X_addRow tn_X tc_X_addRow) (by decide +kernel) ⟨Nat.le_of_ble_eq_true rfl, Nat.le_of_ble_eq_true rfl⟩ rfl hl rfl (Nat.le_of_ble_eq_true rfl) ⟨Nat.zero_le _, Nat.zero_le _⟩ d_X_growA_54 (fun u H locs h2 h => ?_)
      obtain ⟨R3, D3⟩ := u
      refine lv_aload_n hx hb d_X_growA_57 rfl (lv_at hl 0 rfl) ?_
      refine gX_m C h d_X_growA_58 ?_
      exact hret (nI (m + 1)) ((m + 1, n, upd fa m x, fb), (upd (upd (upd fr 0 (nI (m + 1))) 1 (nI (2 * m + 1))) 1 (nI (2 * m + 1 + 1)), fc, R3, D3)) _ _ _ _ d_X_growA_61 (⟨by unfold se_growA; rw [if_neg hg, if_neg c2], sw_inv_row2 (by omega) hn hc0 hc1 h0.1 h1.2 h2.2 h2.1⟩) h
    · refine lv_bipush (v := (-2)) hx hb d_X_growA_19 (by decide) ?_
      exact hret (-2) ((m, n, fa, fb), (fr, fc, fR, fD)) _ _ _ _ d_X_growA_21 (⟨by unfold se_growA; rw [if_neg hg, if_pos c2], hv⟩) h
  · refine lv_iconst (v := (-1)) hx hb d_X_growA_8 (by decide) ?_
    exact hret (-1) ((m, n, fa, fb), (fr, fc, fR, fD)) _ _ _ _ d_X_growA_9 (⟨by unfold se_growA; rw [if_pos (sw_is_t hp c1)], hv⟩) h

set_option maxHeartbeats 4000000 in
set_option maxRecDepth 100000 in
theorem c_X_growB {fa fb fr fc fR fD : Nat → Int32} {m n : Nat} {x : Int32} (hv : sw_inv m n fa fb fr fc fR fD) : MKi 3 y_X_growB b_X_growB 2 (some .int) [.int x] (XW (nI m) (nI n) fa fb fr fc fR fD) (fun r (u : sw_T × sw_F) => (r, u.1) = se_growB (m, n, fa, fb) x ∧ sw_invT u.1 u.2) (fun u : sw_T × sw_F => XW (nI u.1.1) (nI u.1.2.1) u.1.2.2.1 u.1.2.2.2 u.2.1 u.2.2.1 u.2.2.2.1 u.2.2.2.2) := by
  refine ok_i (own := R_X) (by decide) rfl (fun _ => Nat.le_of_ble_eq_true rfl) ?_
  intro l dC dI q cA p e s mi args below meth c A ls Q C hret h hl
  have hx := C.1
  have hb := C.2.1
  have hl : lv_has ls 2 [(0, .ref (q 0)), (1, .int x)] := hl
  obtain ⟨hm, hn, hr0, hr1, hc0, hc1, cb0, cb1⟩ := id hv
  refine lv_aload_n hx hb d_X_growB_0 rfl (lv_at hl 0 rfl) ?_
  refine lv_iload_n hx hb d_X_growB_1 rfl (lv_at hl 1 rfl) ?_
  refine ck_i (n := 1) (ci := 0) (rest := []) C h (c_X_badLetter (x := x)) rfl rfl (tb_goodIn tl_X_56 ti_X_badLetter ts_X_badLetter tn_X tc_X_badLetter) (by decide +kernel) ⟨Nat.le_of_ble_eq_true rfl, Nat.le_of_ble_eq_true rfl⟩ rfl hl rfl (Nat.le_of_ble_eq_true rfl) ⟨Nat.zero_le _, Nat.zero_le _⟩ d_X_growB_2 (fun r u H locs hp h => ?_)
  refine lv_if_eq (tgt := 10) hx hb d_X_growB_5 (by decide) (fun c1 => ?_) (fun c1 => ?_)
  · have hg := sw_is_f hp c1
    refine lv_aload_n hx hb d_X_growB_10 rfl (lv_at hl 0 rfl) ?_
    refine gX_n C h d_X_growB_11 ?_
    refine lv_bipush (v := nI 14) hx hb d_X_growB_14 (by decide) ?_
    refine nb_ne (tgt := 22) hx hb (by omega) (by omega) d_X_growB_16 (by decide) (fun c2 => ?_) (fun c2 => ?_)
    · refine lv_aload_n hx hb d_X_growB_22 rfl (lv_at hl 0 rfl) ?_
      refine gX_b C h d_X_growB_23 ?_
      refine lv_aload_n hx hb d_X_growB_26 rfl (lv_at hl 0 rfl) ?_
      refine gX_n C h d_X_growB_27 ?_
      refine lv_iload_n hx hb d_X_growB_30 rfl (lv_at hl 1 rfl) ?_
      refine sX_b C h (n) (by omega) d_X_growB_31 (fun H locs h => ?_)
      refine lv_aload_n hx hb d_X_growB_32 rfl (lv_at hl 0 rfl) ?_
      refine lv_dup hx hb d_X_growB_33 rfl ?_
      refine gX_n C h d_X_growB_34 ?_
      refine lv_iconst (v := nI 1) hx hb d_X_growB_37 (by decide) ?_
      refine ni_add hx hb d_X_growB_38 ?_
      refine pX_n C h d_X_growB_39 (fun H locs h => ?_)
      refine lv_aload_n hx hb d_X_growB_42 rfl (lv_at hl 0 rfl) ?_
      refine lv_iconst (v := nI 0) hx hb d_X_growB_43 (by decide) ?_
      have cbs := sw_inv_col hv x
      have hn1 : n + 1 ≤ 14 := by omega
      refine ck_v (n := 1) (ci := 0) (rest := []) C h (c_X_addColumn (n := n + 1) (fb := upd fb n x) (M := m) (N := n) hn1 (by omega) (by omega) hr0 hc0 cbs.1) rfl rfl (tb_goodIn tl_X_47 ti_X_addColumn ts_X_addColumn tn_X tc_X_addColumn) (by decide +kernel) ⟨Nat.le_of_ble_eq_true rfl, Nat.le_of_ble_eq_true rfl⟩ rfl hl rfl (Nat.le_of_ble_eq_true rfl) ⟨Nat.zero_le _, Nat.zero_le _⟩ d_X_growB_44 (fun u H locs h0 h => ?_)
      obtain ⟨R1, D1⟩ := u
      refine lv_aload_n hx hb d_X_growB_47 rfl (lv_at hl 0 rfl) ?_
      refine lv_iconst (v := nI 1) hx hb d_X_growB_48 (by decide) ?_
      refine ck_v (n := 1) (ci := 0) (rest := []) C h (c_X_addColumn (n := n + 1) (fb := upd fb n x) (M := 2 * m) (N := 2 * n) hn1 (by omega) (by omega) hr1 ((pk_un (by decide)).trans hc1) (sw_cb_kp cbs.2 h0.2 (by decide) (by omega) (by omega))) rfl rfl (tb_goodIn tl_X_47 ti_X_addColumn ts_X_addColumn tn_X tc_X_addColumn) (by decide +kernel) ⟨Nat.le_of_ble_eq_true rfl, Nat.le_of_ble_eq_true rfl⟩ rfl hl rfl (Nat.le_of_ble_eq_true rfl) ⟨Nat.zero_le _, Nat.zero_le _⟩ d_X_growB_49 (fun u H locs h1 h => ?_)
      obtain ⟨R2, D2⟩ := u
      refine lv_aload_n hx hb d_X_growB_52 rfl (lv_at hl 0 rfl) ?_
      refine lv_iconst (v := nI 1) hx hb d_X_growB_53 (by decide) ?_
      refine ck_v (n := 1) (ci := 0) (rest := []) C h (c_X_addColumn (n := n + 1) (fb := upd fb n x) (M := 2 * m) (N := 2 * n + 1) hn1 (by omega) (by omega) hr1 pk_us h1.1) rfl rfl (tb_goodIn tl_X_47 ti_X_addColumn ts_X_addColumn tn_X tc_X_addColumn) (by decide +kernel) ⟨Nat.le_of_ble_eq_true rfl, Nat.le_of_ble_eq_true rfl⟩ rfl hl rfl (Nat.le_of_ble_eq_true rfl) ⟨Nat.zero_le _, Nat.zero_le _⟩ d_X_growB_54 (fun u H locs h2 h => ?_)
      obtain ⟨R3, D3⟩ := u
      refine lv_aload_n hx hb d_X_growB_57 rfl (lv_at hl 0 rfl) ?_
      refine gX_n C h d_X_growB_58 ?_
      exact hret (nI (n + 1)) ((m, n + 1, fa, upd fb n x), (fr, upd (upd (upd fc 0 (nI (n + 1))) 1 (nI (2 * n + 1))) 1 (nI (2 * n + 1 + 1)), R3, D3)) _ _ _ _ d_X_growB_61 (⟨by unfold se_growB; rw [if_neg hg, if_neg c2], sw_inv_col2 hm hn1 hr0 hr1 h0.1 h1.2 h2.2 h2.1⟩) h
    · refine lv_bipush (v := (-2)) hx hb d_X_growB_19 (by decide) ?_
      exact hret (-2) ((m, n, fa, fb), (fr, fc, fR, fD)) _ _ _ _ d_X_growB_21 (⟨by unfold se_growB; rw [if_neg hg, if_pos c2], hv⟩) h
  · refine lv_iconst (v := (-1)) hx hb d_X_growB_8 (by decide) ?_
    exact hret (-1) ((m, n, fa, fb), (fr, fc, fR, fD)) _ _ _ _ d_X_growB_9 (⟨by unfold se_growB; rw [if_pos (sw_is_t hp c1)], hv⟩) h

set_option maxHeartbeats 4000000 in
set_option maxRecDepth 100000 in
theorem c_X_putA {fa fb fr fc fR fD : Nat → Int32} {m n : Nat} {i x : Int32} (hv : sw_inv m n fa fb fr fc fR fD) : MKi 5 y_X_putA b_X_putA 4 (some .int) [.int i, .int x] (XW (nI m) (nI n) fa fb fr fc fR fD) (fun r (u : sw_T × sw_F) => (r, u.1) = se_putA (m, n, fa, fb) i x ∧ sw_invT u.1 u.2) (fun u : sw_T × sw_F => XW (nI u.1.1) (nI u.1.2.1) u.1.2.2.1 u.1.2.2.2 u.2.1 u.2.2.1 u.2.2.2.1 u.2.2.2.2) := by
  refine ok_i (own := R_X) (by decide) rfl (fun _ => Nat.le_of_ble_eq_true rfl) ?_
  intro l dC dI q cA p e s mi args below meth c A ls Q C hret h hl
  have hx := C.1
  have hb := C.2.1
  have hl : lv_has ls 4 [(0, .ref (q 0)), (1, .int i), (2, .int x)] := hl
  obtain ⟨hm, hn, hr0, hr1, hc0, hc1, cb0, cb1⟩ := id hv
  refine lv_iload_n hx hb d_X_putA_0 rfl (lv_at hl 1 rfl) ?_
  refine lv_if_lt (tgt := 20) hx hb d_X_putA_1 (by decide) (fun c1 => ?_) (fun c1 => ?_)
  · refine lv_iconst (v := (-1)) hx hb d_X_putA_20 (by decide) ?_
    exact hret (-1) ((m, n, fa, fb), (fr, fc, fR, fD)) _ _ _ _ d_X_putA_21 (⟨by unfold se_putA; rw [if_pos (Or.inl c1)], hv⟩) h
  · refine lv_iload_n hx hb d_X_putA_4 rfl (lv_at hl 1 rfl) ?_
    refine lv_aload_n hx hb d_X_putA_5 rfl (lv_at hl 0 rfl) ?_
    refine gX_m C h d_X_putA_6 ?_
    refine lv_icmp_ge (tgt := 20) hx hb d_X_putA_9 (by decide) (fun c2 => ?_) (fun c2 => ?_)
    · refine lv_iconst (v := (-1)) hx hb d_X_putA_20 (by decide) ?_
      exact hret (-1) ((m, n, fa, fb), (fr, fc, fR, fD)) _ _ _ _ d_X_putA_21 (⟨by unfold se_putA; rw [if_pos (Or.inr (Or.inl c2))], hv⟩) h
    · refine lv_aload_n hx hb d_X_putA_12 rfl (lv_at hl 0 rfl) ?_
      refine lv_iload_n hx hb d_X_putA_13 rfl (lv_at hl 2 rfl) ?_
      refine ck_i (n := 1) (ci := 0) (rest := []) C h (c_X_badLetter (x := x)) rfl rfl (tb_goodIn tl_X_56 ti_X_badLetter ts_X_badLetter tn_X tc_X_badLetter) (by decide +kernel) ⟨Nat.le_of_ble_eq_true rfl, Nat.le_of_ble_eq_true rfl⟩ rfl hl rfl (Nat.le_of_ble_eq_true rfl) ⟨Nat.zero_le _, Nat.zero_le _⟩ d_X_putA_14 (fun r u H locs hp h => ?_)
      refine lv_if_eq (tgt := 22) hx hb d_X_putA_17 (by decide) (fun c3 => ?_) (fun c3 => ?_)
      · have hg := sw_is_f hp c3
        obtain ⟨j, hj, rfl⟩ := nI_of c1
        have hjm : j < m := by rw [nI_leI (by omega) hj] at c2; omega
        have hE : se_putA (m, n, fa, fb) (nI j) x = (fa j, (m, n, upd fa j x, fb)) := by
          unfold se_putA
          rw [if_neg (fun z => z.elim c1 (fun z => z.elim c2 hg)), iN_n hj]
        refine lv_aload_n hx hb d_X_putA_22 rfl (lv_at hl 0 rfl) ?_
        refine gX_a C h d_X_putA_23 ?_
        refine lv_iload_n hx hb d_X_putA_26 rfl (lv_at hl 1 rfl) ?_
        refine lX_a C h (j) (by omega) d_X_putA_27 ?_
        refine lv_istore_n (lv' := [(3, .int (fa j)), (0, .ref (q 0)), (1, .int (nI j)), (2, .int x)]) hx hb d_X_putA_28 rfl hl (by decide) rfl (fun ls hl => ?_)
        refine lv_aload_n hx hb d_X_putA_29 rfl (lv_at hl 1 rfl) ?_
        refine gX_a C h d_X_putA_30 ?_
        refine lv_iload_n hx hb d_X_putA_33 rfl (lv_at hl 2 rfl) ?_
        refine lv_iload_n hx hb d_X_putA_34 rfl (lv_at hl 3 rfl) ?_
        refine sX_a C h (j) (by omega) d_X_putA_35 (fun H locs h => ?_)
        refine lv_iload_n hx hb d_X_putA_36 rfl (lv_at hl 0 rfl) ?_
        refine lv_iload_n hx hb d_X_putA_37 rfl (lv_at hl 3 rfl) ?_
        refine lv_icmp_eq (tgt := 45) hx hb d_X_putA_38 (by decide) (fun c4 => ?_) (fun c4 => ?_)
        · refine lv_iload_n hx hb d_X_putA_45 rfl (lv_at hl 0 rfl) ?_
          rw [sw_upd_same c4] at h
          exact hret (fa j) ((m, n, fa, fb), (fr, fc, fR, fD)) _ _ _ _ d_X_putA_46 (⟨by rw [hE, sw_upd_same c4], hv⟩) h
        · refine lv_aload_n hx hb d_X_putA_41 rfl (lv_at hl 1 rfl) ?_
          refine ck_v (n := 0) (ci := 0) (rest := []) C h (c_X_combAgain (fa := upd fa j x) (m := m) (n := n) hm hn) rfl rfl (tb_goodIn tl_X_60 ti_X_combAgain ts_X_combAgain tn_X tc_X_combAgain) (by decide +kernel) ⟨Nat.le_of_ble_eq_true rfl, Nat.le_of_ble_eq_true rfl⟩ rfl hl rfl (Nat.le_of_ble_eq_true rfl) ⟨Nat.zero_le _, Nat.zero_le _⟩ d_X_putA_42 (fun u H locs h4 h => ?_)
          obtain ⟨fr2, fc2, R2, D2⟩ := u
          refine lv_iload_n hx hb d_X_putA_45 rfl (lv_at hl 0 rfl) ?_
          exact hret (fa j) ((m, n, upd fa j x, fb), (fr2, fc2, R2, D2)) _ _ _ _ d_X_putA_46 (⟨by rw [hE], h4⟩) h
      · refine lv_iconst (v := (-1)) hx hb d_X_putA_20 (by decide) ?_
        exact hret (-1) ((m, n, fa, fb), (fr, fc, fR, fD)) _ _ _ _ d_X_putA_21 (⟨by unfold se_putA; rw [if_pos (Or.inr (Or.inr (sw_is_t hp c3)))], hv⟩) h

set_option maxHeartbeats 4000000 in
set_option maxRecDepth 100000 in
theorem c_X_shiftB {fa fb fr fc fR fD : Nat → Int32} {m n : Nat} (hv : sw_inv m n fa fb fr fc fR fD) : MKi 5 y_X_shiftB b_X_shiftB 3 (some .int) [] (XW (nI m) (nI n) fa fb fr fc fR fD) (fun r (u : sw_T × sw_F) => (r, u.1) = se_shiftB (m, n, fa, fb) ∧ sw_invT u.1 u.2) (fun u : sw_T × sw_F => XW (nI u.1.1) (nI u.1.2.1) u.1.2.2.1 u.1.2.2.2 u.2.1 u.2.2.1 u.2.2.2.1 u.2.2.2.2) := by
  refine ok_i (own := R_X) (by decide) rfl (fun _ => Nat.le_of_ble_eq_true rfl) ?_
  intro l dC dI q cA p e s mi args below meth c A ls Q C hret h hl
  have hx := C.1
  have hb := C.2.1
  have hl : lv_has ls 3 [(0, .ref (q 0))] := hl
  obtain ⟨hm, hn, hr0, hr1, hc0, hc1, cb0, cb1⟩ := id hv
  refine lv_aload_n hx hb d_X_shiftB_0 rfl (lv_at hl 0 rfl) ?_
  refine gX_n C h d_X_shiftB_1 ?_
  refine nz_ne (tgt := 10) hx hb (by omega) d_X_shiftB_4 (by decide) (fun c1 => ?_) (fun c1 => ?_)
  · refine lv_aload_n hx hb d_X_shiftB_10 rfl (lv_at hl 0 rfl) ?_
    refine gX_b C h d_X_shiftB_11 ?_
    refine lv_iconst (v := nI 0) hx hb d_X_shiftB_14 (by decide) ?_
    refine lX_b C h (0) (by omega) d_X_shiftB_15 ?_
    refine lv_istore_n (lv' := [(1, .int (fb 0)), (0, .ref (q 0))]) hx hb d_X_shiftB_16 rfl hl (by decide) rfl (fun ls hl => ?_)
    refine lv_aload_n hx hb d_X_shiftB_17 rfl (lv_at hl 1 rfl) ?_
    refine lv_dup hx hb d_X_shiftB_18 rfl ?_
    refine gX_n C h d_X_shiftB_19 ?_
    refine lv_iconst (v := nI 1) hx hb d_X_shiftB_22 (by decide) ?_
    refine ni_sub hx hb (by omega) d_X_shiftB_23 ?_
    refine pX_n C h d_X_shiftB_24 (fun H locs h => ?_)
    refine lv_iconst (v := nI 0) hx hb d_X_shiftB_27 (by decide) ?_
    refine lv_istore_n (lv' := [(2, .int (nI 0)), (1, .int (fb 0)), (0, .ref (q 0))]) hx hb d_X_shiftB_28 rfl hl (by decide) rfl (fun ls hl => ?_)
    have hE : se_shiftB (m, n, fa, fb) = (fb 0, (m, n - 1, fa, sw_sh fb (n - 1))) := by
      unfold se_shiftB
      rw [if_neg c1]
    have loop : ∀ (fuel : Nat) (j : Nat), j ≤ n - 1 → n - 1 + 1 ≤ j + fuel → ∀ (H : Heap) (locs : List Loc) (ls : Array Slot), WK s dC dI A (XW (nI m) (nI (n - 1)) fa (sw_sh fb j) fr fc fR fD q cA) H locs → lv_has ls 3 [(0, .ref (q 0)), (1, .int (fb 0)), (2, .int (nI j))] → W p l e (rm_L 5) s mi args below meth c H locs 0 0 Q (F0 mi 29 ls []) := by
      intro fuel
      induction fuel with
      | zero => intro j hle hfu; exact absurd hfu (by omega)
      | succ fuel ih_loop =>
        intro j hle hfu H locs ls h hl
        refine lv_iload_n hx hb d_X_shiftB_29 rfl (lv_at hl 2 rfl) ?_
        refine lv_aload_n hx hb d_X_shiftB_30 rfl (lv_at hl 0 rfl) ?_
        refine gX_n C h d_X_shiftB_31 ?_
        refine nb_ge (tgt := 57) hx hb (by omega) (by omega) d_X_shiftB_34 (by decide) (fun cj => ?_) (fun cj => ?_)
        · obtain rfl : n - 1 = j := by omega
          refine lv_aload_n hx hb d_X_shiftB_57 rfl (lv_at hl 0 rfl) ?_
          refine ck_v (n := 0) (ci := 0) (rest := []) C h (c_X_combAgain (m := m) (n := n - 1) hm (by omega)) rfl rfl (tb_goodIn tl_X_60 ti_X_combAgain ts_X_combAgain tn_X tc_X_combAgain) (by decide +kernel) ⟨Nat.le_of_ble_eq_true rfl, Nat.le_of_ble_eq_true rfl⟩ rfl hl rfl (Nat.le_of_ble_eq_true rfl) ⟨Nat.zero_le _, Nat.zero_le _⟩ d_X_shiftB_58 (fun u H locs h4 h => ?_)
          obtain ⟨fr2, fc2, R2, D2⟩ := u
          refine lv_iload_n hx hb d_X_shiftB_61 rfl (lv_at hl 1 rfl) ?_
          exact hret (fb 0) ((m, n - 1, fa, sw_sh fb (n - 1)), (fr2, fc2, R2, D2)) _ _ _ _ d_X_shiftB_62 (⟨by rw [hE], h4⟩) h
        · refine lv_aload_n hx hb d_X_shiftB_37 rfl (lv_at hl 0 rfl) ?_
          refine gX_b C h d_X_shiftB_38 ?_
          refine lv_iload_n hx hb d_X_shiftB_41 rfl (lv_at hl 2 rfl) ?_
          refine lv_aload_n hx hb d_X_shiftB_42 rfl (lv_at hl 0 rfl) ?_
          refine gX_b C h d_X_shiftB_43 ?_
          refine lv_iload_n hx hb d_X_shiftB_46 rfl (lv_at hl 2 rfl) ?_
          refine lv_iconst (v := nI 1) hx hb d_X_shiftB_47 (by decide) ?_
          refine ni_add hx hb d_X_shiftB_48 ?_
          refine lX_b C h (j + 1) (by omega) d_X_shiftB_49 ?_
          refine sX_b C h (j) (by omega) d_X_shiftB_50 (fun H locs h => ?_)
          rw [sw_sh_s] at h
          refine ni_iinc (k := 2) (lv' := [(2, .int (nI (j + 1))), (0, .ref (q 0)), (1, .int (fb 0))]) hx hb d_X_shiftB_51 hl rfl (by decide) rfl (fun ls hl => ?_)
          refine lv_goto (tgt := 29) hx hb d_X_shiftB_54 (by decide) ?_
          exact ih_loop (j + 1) (by omega) (by omega) _ _ _ h (lv_sub hl [1, 2, 0] rfl)
    rw [← sw_sh_0 fb] at h
    have hb0 : sw_sh fb 0 0 = fb 0 := by rw [sw_sh_0]
    rw [sw_sh_0 fb] at h; rw [← sw_sh_0 fb] at h
    exact loop n 0 (by omega) (by omega) _ _ _ h (lv_sub hl [2, 1, 0] rfl)
  · refine lv_bipush (v := (-4)) hx hb d_X_shiftB_7 (by decide) ?_
    exact hret (-4) ((m, n, fa, fb), (fr, fc, fR, fD)) _ _ _ _ d_X_shiftB_9 (⟨by unfold se_shiftB; rw [if_pos c1], hv⟩) h

set_option maxHeartbeats 4000000 in
set_option maxRecDepth 100000 in
theorem c_X_clear {fa fb fr fc fR fD : Nat → Int32} {m n : Nat} : MKv 5 y_X_clear b_X_clear 1 [] (XW (nI m) (nI n) fa fb fr fc fR fD) (fun u : sw_T × sw_F => u.1 = se_clear (m, n, fa, fb) ∧ sw_invT u.1 u.2) (fun u : sw_T × sw_F => XW (nI u.1.1) (nI u.1.2.1) u.1.2.2.1 u.1.2.2.2 u.2.1 u.2.2.1 u.2.2.2.1 u.2.2.2.2) := by
  refine ok_v (own := R_X) (by decide) rfl (fun _ => Nat.le_of_ble_eq_true rfl) ?_
  intro l dC dI q cA p e s mi args below meth c A ls Q C hret h hl
  have hx := C.1
  have hb := C.2.1
  have hl : lv_has ls 1 [(0, .ref (q 0))] := hl
  refine lv_aload_n hx hb d_X_clear_0 rfl (lv_at hl 0 rfl) ?_
  refine lv_iconst (v := nI 0) hx hb d_X_clear_1 (by decide) ?_
  refine pX_m C h d_X_clear_2 (fun H locs h => ?_)
  refine lv_aload_n hx hb d_X_clear_5 rfl (lv_at hl 0 rfl) ?_
  refine lv_iconst (v := nI 0) hx hb d_X_clear_6 (by decide) ?_
  refine pX_n C h d_X_clear_7 (fun H locs h => ?_)
  refine lv_aload_n hx hb d_X_clear_10 rfl (lv_at hl 0 rfl) ?_
  refine ck_v (n := 0) (ci := 0) (rest := []) C h (c_X_combAgain (m := 0) (n := 0) (by decide) (by decide)) rfl rfl (tb_goodIn tl_X_60 ti_X_combAgain ts_X_combAgain tn_X tc_X_combAgain) (by decide +kernel) ⟨Nat.le_of_ble_eq_true rfl, Nat.le_of_ble_eq_true rfl⟩ rfl hl rfl (Nat.le_of_ble_eq_true rfl) ⟨Nat.zero_le _, Nat.zero_le _⟩ d_X_clear_11 (fun u H locs h4 h => ?_)
  obtain ⟨fr2, fc2, R2, D2⟩ := u
  exact hret ((0, 0, fa, fb), (fr2, fc2, R2, D2)) _ _ _ _ d_X_clear_14 (⟨rfl, h4⟩) h

set_option maxHeartbeats 4000000 in
set_option maxRecDepth 100000 in
theorem c_X_lengths {fa fb fr fc fR fD : Nat → Int32} {m n : Nat} : MKi 0 y_X_lengths b_X_lengths 1 (some .int) [] (XW (nI m) (nI n) fa fb fr fc fR fD) (fun r (_ : Unit) => r = nI (m + 16 * n)) (fun (_ : Unit) => XW (nI m) (nI n) fa fb fr fc fR fD) := by
  refine ok_i (own := R_X) (by decide) rfl (fun _ => Nat.le_of_ble_eq_true rfl) ?_
  intro l dC dI q cA p e s mi args below meth c A ls Q C hret h hl
  have hx := C.1
  have hb := C.2.1
  have hl : lv_has ls 1 [(0, .ref (q 0))] := hl
  refine lv_aload_n hx hb d_X_lengths_0 rfl (lv_at hl 0 rfl) ?_
  refine gX_m C h d_X_lengths_1 ?_
  refine lv_bipush (v := nI 16) hx hb d_X_lengths_4 (by decide) ?_
  refine lv_aload_n hx hb d_X_lengths_6 rfl (lv_at hl 0 rfl) ?_
  refine gX_n C h d_X_lengths_7 ?_
  refine ni_mul hx hb d_X_lengths_10 ?_
  refine ni_add hx hb d_X_lengths_11 ?_
  exact hret (nI (m + (16 * n))) () _ _ _ _ d_X_lengths_12 (rfl) h
end
section
/-! THE CLASS, 4: common and changes; printed by the walker -/
set_option maxHeartbeats 4000000 in
set_option maxRecDepth 100000 in
theorem c_X_commonB {fa fb fr fc fR fD : Nat → Int32} {m n : Nat} {i j : Int32} (hv : sw_inv m n fa fb fr fc fR fD) : MKi 1 y_X_commonB b_X_commonB 3 (some .int) [.int i, .int j] (XW (nI m) (nI n) fa fb fr fc fR fD) (fun r (_ : Unit) => r = an_commonB m n fa fb i j) (fun (_ : Unit) => XW (nI m) (nI n) fa fb fr fc fR fD) := by
  refine ok_i (own := R_X) (by decide) rfl (fun _ => Nat.le_of_ble_eq_true rfl) ?_
  intro l dC dI q cA p e s mi args below meth c A ls Q C hret h hl
  have hx := C.1
  have hb := C.2.1
  have hl : lv_has ls 3 [(0, .ref (q 0)), (1, .int i), (2, .int j)] := hl
  obtain ⟨hm, hn, hr0, hr1, hc0, hc1, cb0, cb1⟩ := id hv
  refine lv_aload_n hx hb d_X_commonB_0 rfl (lv_at hl 0 rfl) ?_
  refine lv_iload_n hx hb d_X_commonB_1 rfl (lv_at hl 1 rfl) ?_
  refine lv_iload_n hx hb d_X_commonB_2 rfl (lv_at hl 2 rfl) ?_
  refine lv_aload_n hx hb d_X_commonB_3 rfl (lv_at hl 0 rfl) ?_
  refine gX_n C h d_X_commonB_4 ?_
  refine ck_i (n := 3) (ci := 0) (rest := []) C h (c_X_badStretch (i := i) (j := j) (x := nI n)) rfl rfl (tb_goodIn tl_X_63 ti_X_badStretch ts_X_badStretch tn_X tc_X_badStretch) (by decide +kernel) ⟨Nat.le_of_ble_eq_true rfl, Nat.le_of_ble_eq_true rfl⟩ rfl hl rfl (Nat.le_of_ble_eq_true rfl) ⟨Nat.zero_le _, Nat.zero_le _⟩ d_X_commonB_7 (fun r u H locs hp h => ?_)
  refine lv_if_eq (tgt := 15) hx hb d_X_commonB_10 (by decide) (fun c1 => ?_) (fun c1 => ?_)
  · have hg := sw_is_f hp c1
    have hgg := hg
    obtain ⟨i, j, rfl, rfl, hij, hj⟩ := sw_goodS (by omega) hg
    refine lv_aload_n hx hb d_X_commonB_15 rfl (lv_at hl 0 rfl) ?_
    refine lv_iconst (v := nI 0) hx hb d_X_commonB_16 (by decide) ?_
    refine lv_iload_n hx hb d_X_commonB_17 rfl (lv_at hl 1 rfl) ?_
    refine lv_iload_n hx hb d_X_commonB_18 rfl (lv_at hl 2 rfl) ?_
    refine ck_i (n := 3) (ci := 0) (rest := []) C h (c_X_common (la := fa) (lb := fb) (β := 0) (M := m) (N := n) (by decide) (by omega) (by omega) hr0 hc0 cb0) rfl rfl (tb_goodIn tl_X_67 ti_X_common ts_X_common tn_X tc_X_common) (by decide +kernel) ⟨Nat.le_of_ble_eq_true rfl, Nat.le_of_ble_eq_true rfl⟩ rfl hl rfl (Nat.le_of_ble_eq_true rfl) ⟨Nat.zero_le _, Nat.zero_le _⟩ d_X_commonB_19 (fun r2 u H locs h2 h => ?_)
    exact hret r2 () _ _ _ _ d_X_commonB_22 (by rw [h2, sw_cmB hij hj (by omega) (by omega)]; unfold an_commonB; rw [if_neg hgg, iN_n (by omega), iN_n (by omega)]) h
  · refine lv_iconst (v := (-1)) hx hb d_X_commonB_13 (by decide) ?_
    exact hret (-1) () _ _ _ _ d_X_commonB_14 (by unfold an_commonB; rw [if_pos (sw_is_t hp c1)]) h

set_option maxHeartbeats 4000000 in
set_option maxRecDepth 100000 in
theorem c_X_commonRows {mv nv : Int32} {fa fb fr fc fR fD : Nat → Int32} {la lb : Nat → Int32} {β M N i j : Nat} (hβ : β < 3) (hM : M ≤ 20) (hN : N ≤ 28) (hr : fr β = nI M) (hc : fc β = nI N) (hcb : sw_cb la lb β M N fR fD) (hij : i ≤ j) (hj : j ≤ M) : MKi 1 y_X_commonRows b_X_commonRows 6 (some .int) [.int (nI β), .int (nI i), .int (nI j)] (XW mv nv fa fb fr fc fR fD) (fun r (_ : Unit) => r = nI (sw_d la lb i 0 (j - i) N)) (fun (_ : Unit) => XW mv nv fa fb fr fc fR fD) := by
  refine ok_i (own := R_X) (by decide) rfl (fun _ => Nat.le_of_ble_eq_true rfl) ?_
  intro l dC dI q cA p e s mi args below meth c A ls Q C hret h hl
  have hx := C.1
  have hb := C.2.1
  have hl : lv_has ls 6 [(0, .ref (q 0)), (1, .int (nI β)), (2, .int (nI i)), (3, .int (nI j))] := hl
  refine lv_aload_n hx hb d_X_commonRows_0 rfl (lv_at hl 0 rfl) ?_
  refine gX_rows C h d_X_commonRows_1 ?_
  refine lv_iload_n hx hb d_X_commonRows_4 rfl (lv_at hl 1 rfl) ?_
  refine lX_rows C h (β) (by omega) d_X_commonRows_5 ?_
  refine ni_top (y := nI M) (hr) ?_
  refine lv_iload_n hx hb d_X_commonRows_6 rfl (lv_at hl 3 rfl) ?_
  refine ni_sub hx hb (by omega) d_X_commonRows_7 ?_
  refine lv_istore (lv' := [(4, .int (nI (M - j))), (0, .ref (q 0)), (1, .int (nI β)), (2, .int (nI i)), (3, .int (nI j))]) hx hb d_X_commonRows_8 hl (by decide) rfl (fun ls hl => ?_)
  refine lv_aload_n hx hb d_X_commonRows_10 rfl (lv_at hl 1 rfl) ?_
  refine lv_iload_n hx hb d_X_commonRows_11 rfl (lv_at hl 2 rfl) ?_
  refine lv_iload_n hx hb d_X_commonRows_12 rfl (lv_at hl 3 rfl) ?_
  refine lv_ineg hx hb d_X_commonRows_13 ?_
  refine ni_top (y := 0 - nI i) (sw_negI i) ?_
  refine lv_aload_n hx hb d_X_commonRows_14 rfl (lv_at hl 1 rfl) ?_
  refine gX_columns C h d_X_commonRows_15 ?_
  refine lv_iload_n hx hb d_X_commonRows_18 rfl (lv_at hl 2 rfl) ?_
  refine lX_columns C h (β) (by omega) d_X_commonRows_19 ?_
  refine ni_top (y := nI N) (hc) ?_
  refine lv_iload hx hb d_X_commonRows_20 (lv_at hl 0 rfl) ?_
  refine lv_iadd hx hb d_X_commonRows_22 ?_
  refine ck_i (n := 3) (ci := 0) (rest := []) C h (c_X_common (la := la) (lb := lb) (β := β) (M := M) (N := N) (by omega) (by omega) (by omega) hr hc hcb) rfl rfl (tb_goodIn tl_X_67 ti_X_common ts_X_common tn_X tc_X_common) (by decide +kernel) ⟨Nat.le_of_ble_eq_true rfl, Nat.le_of_ble_eq_true rfl⟩ rfl hl rfl (Nat.le_of_ble_eq_true rfl) ⟨Nat.zero_le _, Nat.zero_le _⟩ d_X_commonRows_23 (fun r u H locs h2 h => ?_)
  refine lv_istore (lv' := [(5, .int r), (4, .int (nI (M - j))), (0, .ref (q 0)), (1, .int (nI β)), (2, .int (nI i)), (3, .int (nI j))]) hx hb d_X_commonRows_26 hl (by decide) rfl (fun ls hl => ?_)
  refine lv_iload hx hb d_X_commonRows_28 (lv_at hl 0 rfl) ?_
  refine lv_iload_n hx hb d_X_commonRows_30 rfl (lv_at hl 4 rfl) ?_
  refine lv_isub hx hb d_X_commonRows_31 ?_
  refine lv_iload hx hb d_X_commonRows_32 (lv_at hl 1 rfl) ?_
  refine lv_isub hx hb d_X_commonRows_34 ?_
  exact hret ((r - (nI i)) - (nI (M - j))) () _ _ _ _ d_X_commonRows_35 (by rw [h2, sw_cmA hij hj (by omega) (by omega)]) h

set_option maxHeartbeats 4000000 in
set_option maxRecDepth 100000 in
theorem c_X_commonA {fa fb fr fc fR fD : Nat → Int32} {m n : Nat} {i j : Int32} (hv : sw_inv m n fa fb fr fc fR fD) : MKi 2 y_X_commonA b_X_commonA 3 (some .int) [.int i, .int j] (XW (nI m) (nI n) fa fb fr fc fR fD) (fun r (_ : Unit) => r = an_commonA m n fa fb i j) (fun (_ : Unit) => XW (nI m) (nI n) fa fb fr fc fR fD) := by
  refine ok_i (own := R_X) (by decide) rfl (fun _ => Nat.le_of_ble_eq_true rfl) ?_
  intro l dC dI q cA p e s mi args below meth c A ls Q C hret h hl
  have hx := C.1
  have hb := C.2.1
  have hl : lv_has ls 3 [(0, .ref (q 0)), (1, .int i), (2, .int j)] := hl
  obtain ⟨hm, hn, hr0, hr1, hc0, hc1, cb0, cb1⟩ := id hv
  refine lv_aload_n hx hb d_X_commonA_0 rfl (lv_at hl 0 rfl) ?_
  refine lv_iload_n hx hb d_X_commonA_1 rfl (lv_at hl 1 rfl) ?_
  refine lv_iload_n hx hb d_X_commonA_2 rfl (lv_at hl 2 rfl) ?_
  refine lv_aload_n hx hb d_X_commonA_3 rfl (lv_at hl 0 rfl) ?_
  refine gX_m C h d_X_commonA_4 ?_
  refine ck_i (n := 3) (ci := 0) (rest := []) C h (c_X_badStretch (i := i) (j := j) (x := nI m)) rfl rfl (tb_goodIn tl_X_63 ti_X_badStretch ts_X_badStretch tn_X tc_X_badStretch) (by decide +kernel) ⟨Nat.le_of_ble_eq_true rfl, Nat.le_of_ble_eq_true rfl⟩ rfl hl rfl (Nat.le_of_ble_eq_true rfl) ⟨Nat.zero_le _, Nat.zero_le _⟩ d_X_commonA_7 (fun r u H locs hp h => ?_)
  refine lv_if_eq (tgt := 15) hx hb d_X_commonA_10 (by decide) (fun c1 => ?_) (fun c1 => ?_)
  · have hg := sw_is_f hp c1
    have hgg := hg
    obtain ⟨i, j, rfl, rfl, hij, hj⟩ := sw_goodS (by omega) hg
    refine lv_aload_n hx hb d_X_commonA_15 rfl (lv_at hl 0 rfl) ?_
    refine lv_iconst (v := nI 0) hx hb d_X_commonA_16 (by decide) ?_
    refine lv_iload_n hx hb d_X_commonA_17 rfl (lv_at hl 1 rfl) ?_
    refine lv_iload_n hx hb d_X_commonA_18 rfl (lv_at hl 2 rfl) ?_
    refine ck_i (n := 3) (ci := 0) (rest := []) C h (c_X_commonRows (la := fa) (lb := fb) (β := 0) (M := m) (N := n) (i := i) (j := j) (by decide) (by omega) (by omega) hr0 hc0 cb0 hij hj) rfl rfl (tb_goodIn tl_X_71 ti_X_commonRows ts_X_commonRows tn_X tc_X_commonRows) (by decide +kernel) ⟨Nat.le_of_ble_eq_true rfl, Nat.le_of_ble_eq_true rfl⟩ rfl hl rfl (Nat.le_of_ble_eq_true rfl) ⟨Nat.zero_le _, Nat.zero_le _⟩ d_X_commonA_19 (fun r2 u H locs h2 h => ?_)
    exact hret r2 () _ _ _ _ d_X_commonA_22 (by rw [h2]; unfold an_commonA; rw [if_neg hgg, iN_n (by omega), iN_n (by omega)]) h
  · refine lv_iconst (v := (-1)) hx hb d_X_commonA_13 (by decide) ?_
    exact hret (-1) () _ _ _ _ d_X_commonA_14 (by unfold an_commonA; rw [if_pos (sw_is_t hp c1)]) h

set_option maxHeartbeats 4000000 in
set_option maxRecDepth 100000 in
theorem c_X_commonEnd {fa fb fr fc fR fD : Nat → Int32} {m n : Nat} {k j : Int32} (hv : sw_inv m n fa fb fr fc fR fD) : MKi 1 y_X_commonEnd b_X_commonEnd 5 (some .int) [.int k, .int j] (XW (nI m) (nI n) fa fb fr fc fR fD) (fun r (_ : Unit) => r = an_commonEnd m n fa fb k j) (fun (_ : Unit) => XW (nI m) (nI n) fa fb fr fc fR fD) := by
  refine ok_i (own := R_X) (by decide) rfl (fun _ => Nat.le_of_ble_eq_true rfl) ?_
  intro l dC dI q cA p e s mi args below meth c A ls Q C hret h hl
  have hx := C.1
  have hb := C.2.1
  have hl : lv_has ls 5 [(0, .ref (q 0)), (1, .int k), (2, .int j)] := hl
  obtain ⟨hm, hn, hr0, hr1, hc0, hc1, cb0, cb1⟩ := id hv
  refine lv_aload_n hx hb d_X_commonEnd_0 rfl (lv_at hl 0 rfl) ?_
  refine lv_iload_n hx hb d_X_commonEnd_1 rfl (lv_at hl 1 rfl) ?_
  refine lv_iload_n hx hb d_X_commonEnd_2 rfl (lv_at hl 2 rfl) ?_
  refine ck_i (n := 2) (ci := 0) (rest := []) C h (c_X_badCounts (k := k) (j := j) (m := m) (n := n)) rfl rfl (tb_goodIn tl_X_74 ti_X_badCounts ts_X_badCounts tn_X tc_X_badCounts) (by decide +kernel) ⟨Nat.le_of_ble_eq_true rfl, Nat.le_of_ble_eq_true rfl⟩ rfl hl rfl (Nat.le_of_ble_eq_true rfl) ⟨Nat.zero_le _, Nat.zero_le _⟩ d_X_commonEnd_3 (fun r u H locs hp h => ?_)
  refine lv_if_eq (tgt := 11) hx hb d_X_commonEnd_6 (by decide) (fun c1 => ?_) (fun c1 => ?_)
  · have hg := sw_is_f hp c1
    have hgg := hg
    obtain ⟨k, j, rfl, rfl, hk, hj⟩ := sw_goodC (by omega) (by omega) hg
    refine lv_aload_n hx hb d_X_commonEnd_11 rfl (lv_at hl 0 rfl) ?_
    refine gX_m C h d_X_commonEnd_12 ?_
    refine lv_iload_n hx hb d_X_commonEnd_15 rfl (lv_at hl 1 rfl) ?_
    refine ni_sub hx hb (by omega) d_X_commonEnd_16 ?_
    refine lv_istore_n (lv' := [(3, .int (nI (m - k))), (0, .ref (q 0)), (1, .int (nI k)), (2, .int (nI j))]) hx hb d_X_commonEnd_17 rfl hl (by decide) rfl (fun ls hl => ?_)
    refine lv_aload_n hx hb d_X_commonEnd_18 rfl (lv_at hl 1 rfl) ?_
    refine lv_iconst (v := nI 0) hx hb d_X_commonEnd_19 (by decide) ?_
    refine lv_iload_n hx hb d_X_commonEnd_20 rfl (lv_at hl 0 rfl) ?_
    refine lv_ineg hx hb d_X_commonEnd_21 ?_
    refine ni_top (y := 0 - nI (m - k)) (sw_negI _) ?_
    refine lv_iload_n hx hb d_X_commonEnd_22 rfl (lv_at hl 3 rfl) ?_
    refine ck_i (n := 3) (ci := 0) (rest := []) C h (c_X_common (la := fa) (lb := fb) (β := 0) (M := m) (N := n) (by decide) (by omega) (by omega) hr0 hc0 cb0) rfl rfl (tb_goodIn tl_X_67 ti_X_common ts_X_common tn_X tc_X_common) (by decide +kernel) ⟨Nat.le_of_ble_eq_true rfl, Nat.le_of_ble_eq_true rfl⟩ rfl hl rfl (Nat.le_of_ble_eq_true rfl) ⟨Nat.zero_le _, Nat.zero_le _⟩ d_X_commonEnd_23 (fun r2 u H locs h2 h => ?_)
    refine lv_istore (lv' := [(4, .int r2), (3, .int (nI (m - k))), (0, .ref (q 0)), (1, .int (nI k)), (2, .int (nI j))]) hx hb d_X_commonEnd_26 hl (by decide) rfl (fun ls hl => ?_)
    refine lv_iload hx hb d_X_commonEnd_28 (lv_at hl 0 rfl) ?_
    refine lv_iload_n hx hb d_X_commonEnd_30 rfl (lv_at hl 1 rfl) ?_
    refine lv_isub hx hb d_X_commonEnd_31 ?_
    exact hret (r2 - (nI (m - k))) () _ _ _ _ d_X_commonEnd_32 (by rw [h2, sw_cmE (by omega) hj (by omega) (by omega)]; unfold an_commonEnd; rw [if_neg hgg, iN_n (by omega), iN_n (by omega), show m - (m - k) = k by omega]) h
  · refine lv_iconst (v := (-1)) hx hb d_X_commonEnd_9 (by decide) ?_
    exact hret (-1) () _ _ _ _ d_X_commonEnd_10 (by unfold an_commonEnd; rw [if_pos (sw_is_t hp c1)]) h

set_option maxHeartbeats 4000000 in
set_option maxRecDepth 100000 in
theorem c_X_commonBegin {fa fb fr fc fR fD : Nat → Int32} {m n : Nat} {k j : Int32} (hv : sw_inv m n fa fb fr fc fR fD) : MKi 1 y_X_commonBegin b_X_commonBegin 5 (some .int) [.int k, .int j] (XW (nI m) (nI n) fa fb fr fc fR fD) (fun r (_ : Unit) => r = an_commonBegin m n fa fb k j) (fun (_ : Unit) => XW (nI m) (nI n) fa fb fr fc fR fD) := by
  refine ok_i (own := R_X) (by decide) rfl (fun _ => Nat.le_of_ble_eq_true rfl) ?_
  intro l dC dI q cA p e s mi args below meth c A ls Q C hret h hl
  have hx := C.1
  have hb := C.2.1
  have hl : lv_has ls 5 [(0, .ref (q 0)), (1, .int k), (2, .int j)] := hl
  obtain ⟨hm, hn, hr0, hr1, hc0, hc1, cb0, cb1⟩ := id hv
  refine lv_aload_n hx hb d_X_commonBegin_0 rfl (lv_at hl 0 rfl) ?_
  refine lv_iload_n hx hb d_X_commonBegin_1 rfl (lv_at hl 1 rfl) ?_
  refine lv_iload_n hx hb d_X_commonBegin_2 rfl (lv_at hl 2 rfl) ?_
  refine ck_i (n := 2) (ci := 0) (rest := []) C h (c_X_badCounts (k := k) (j := j) (m := m) (n := n)) rfl rfl (tb_goodIn tl_X_74 ti_X_badCounts ts_X_badCounts tn_X tc_X_badCounts) (by decide +kernel) ⟨Nat.le_of_ble_eq_true rfl, Nat.le_of_ble_eq_true rfl⟩ rfl hl rfl (Nat.le_of_ble_eq_true rfl) ⟨Nat.zero_le _, Nat.zero_le _⟩ d_X_commonBegin_3 (fun r u H locs hp h => ?_)
  refine lv_if_eq (tgt := 11) hx hb d_X_commonBegin_6 (by decide) (fun c1 => ?_) (fun c1 => ?_)
  · have hg := sw_is_f hp c1
    have hgg := hg
    obtain ⟨k, j, rfl, rfl, hk, hj⟩ := sw_goodC (by omega) (by omega) hg
    refine lv_aload_n hx hb d_X_commonBegin_11 rfl (lv_at hl 0 rfl) ?_
    refine gX_m C h d_X_commonBegin_12 ?_
    refine lv_iload_n hx hb d_X_commonBegin_15 rfl (lv_at hl 1 rfl) ?_
    refine ni_sub hx hb (by omega) d_X_commonBegin_16 ?_
    refine lv_istore_n (lv' := [(3, .int (nI (m - k))), (0, .ref (q 0)), (1, .int (nI k)), (2, .int (nI j))]) hx hb d_X_commonBegin_17 rfl hl (by decide) rfl (fun ls hl => ?_)
    refine lv_aload_n hx hb d_X_commonBegin_18 rfl (lv_at hl 1 rfl) ?_
    refine lv_iconst (v := nI 0) hx hb d_X_commonBegin_19 (by decide) ?_
    refine lv_aload_n hx hb d_X_commonBegin_20 rfl (lv_at hl 1 rfl) ?_
    refine gX_n C h d_X_commonBegin_21 ?_
    refine lv_iload_n hx hb d_X_commonBegin_24 rfl (lv_at hl 3 rfl) ?_
    refine ni_sub hx hb (by omega) d_X_commonBegin_25 ?_
    refine lv_aload_n hx hb d_X_commonBegin_26 rfl (lv_at hl 1 rfl) ?_
    refine gX_n C h d_X_commonBegin_27 ?_
    refine lv_iload_n hx hb d_X_commonBegin_30 rfl (lv_at hl 0 rfl) ?_
    refine lv_iadd hx hb d_X_commonBegin_31 ?_
    refine ck_i (n := 3) (ci := 0) (rest := []) C h (c_X_common (la := fa) (lb := fb) (β := 0) (M := m) (N := n) (by decide) (by omega) (by omega) hr0 hc0 cb0) rfl rfl (tb_goodIn tl_X_67 ti_X_common ts_X_common tn_X tc_X_common) (by decide +kernel) ⟨Nat.le_of_ble_eq_true rfl, Nat.le_of_ble_eq_true rfl⟩ rfl hl rfl (Nat.le_of_ble_eq_true rfl) ⟨Nat.zero_le _, Nat.zero_le _⟩ d_X_commonBegin_32 (fun r2 u H locs h2 h => ?_)
    refine lv_istore (lv' := [(4, .int r2), (3, .int (nI (m - k))), (0, .ref (q 0)), (1, .int (nI k)), (2, .int (nI j))]) hx hb d_X_commonBegin_35 hl (by decide) rfl (fun ls hl => ?_)
    refine lv_iload hx hb d_X_commonBegin_37 (lv_at hl 0 rfl) ?_
    refine lv_iload_n hx hb d_X_commonBegin_39 rfl (lv_at hl 1 rfl) ?_
    refine lv_isub hx hb d_X_commonBegin_40 ?_
    exact hret (r2 - (nI (m - k))) () _ _ _ _ d_X_commonBegin_41 (by rw [h2, sw_cmF hk (by omega) (by omega) (by omega)]; unfold an_commonBegin; rw [if_neg hgg, iN_n (by omega), iN_n (by omega), show n - (n - j) = j by omega]) h
  · refine lv_iconst (v := (-1)) hx hb d_X_commonBegin_9 (by decide) ?_
    exact hret (-1) () _ _ _ _ d_X_commonBegin_10 (by unfold an_commonBegin; rw [if_pos (sw_is_t hp c1)]) h

set_option maxHeartbeats 4000000 in
set_option maxRecDepth 100000 in
theorem c_X_changes {fa fb fr fc fR fD : Nat → Int32} {m n : Nat} {i j : Nat} (hv : sw_inv m n fa fb fr fc fR fD) (hlt : sw_let m n fa fb) (hij : i ≤ j) (hj : j ≤ n) : MKi 1 y_X_changes b_X_changes 4 (some .int) [.int (nI i), .int (nI j)] (XW (nI m) (nI n) fa fb fr fc fR fD) (fun r (_ : Unit) => r = nI (sw_e fa fb 0 i m (j - i))) (fun (_ : Unit) => XW (nI m) (nI n) fa fb fr fc fR fD) := by
  refine ok_i (own := R_X) (by decide) rfl (fun _ => Nat.le_of_ble_eq_true rfl) ?_
  intro l dC dI q cA p e s mi args below meth c A ls Q C hret h hl
  have hx := C.1
  have hb := C.2.1
  have hl : lv_has ls 4 [(0, .ref (q 0)), (1, .int (nI i)), (2, .int (nI j))] := hl
  obtain ⟨hm, hn, hr0, hr1, hc0, hc1, cb0, cb1⟩ := id hv
  refine lv_aload_n hx hb d_X_changes_0 rfl (lv_at hl 0 rfl) ?_
  refine lv_iconst (v := nI 1) hx hb d_X_changes_1 (by decide) ?_
  refine lv_iconst (v := nI 2) hx hb d_X_changes_2 (by decide) ?_
  refine lv_iload_n hx hb d_X_changes_3 rfl (lv_at hl 1 rfl) ?_
  refine ni_mul hx hb d_X_changes_4 ?_
  refine lv_iconst (v := nI 2) hx hb d_X_changes_5 (by decide) ?_
  refine lv_iload_n hx hb d_X_changes_6 rfl (lv_at hl 2 rfl) ?_
  refine ni_mul hx hb d_X_changes_7 ?_
  refine ck_i (n := 3) (ci := 0) (rest := []) C h (c_X_common (la := sw_sp fa) (lb := sw_sp fb) (β := 1) (M := 2 * m) (N := 2 * n) (by decide) (by omega) (by omega) hr1 hc1 cb1) rfl rfl (tb_goodIn tl_X_67 ti_X_common ts_X_common tn_X tc_X_common) (by decide +kernel) ⟨Nat.le_of_ble_eq_true rfl, Nat.le_of_ble_eq_true rfl⟩ rfl hl rfl (Nat.le_of_ble_eq_true rfl) ⟨Nat.zero_le _, Nat.zero_le _⟩ d_X_changes_8 (fun r u H locs h2 h => ?_)
  refine lv_istore_n (lv' := [(3, .int r), (0, .ref (q 0)), (1, .int (nI i)), (2, .int (nI j))]) hx hb d_X_changes_11 rfl hl (by decide) rfl (fun ls hl => ?_)
  refine lv_aload_n hx hb d_X_changes_12 rfl (lv_at hl 1 rfl) ?_
  refine gX_m C h d_X_changes_13 ?_
  refine lv_iload_n hx hb d_X_changes_16 rfl (lv_at hl 3 rfl) ?_
  refine ni_add hx hb d_X_changes_17 ?_
  refine lv_iload_n hx hb d_X_changes_18 rfl (lv_at hl 2 rfl) ?_
  refine ni_sub hx hb (by omega) d_X_changes_19 ?_
  refine lv_iload_n hx hb d_X_changes_20 rfl (lv_at hl 0 rfl) ?_
  refine lv_isub hx hb d_X_changes_21 ?_
  exact hret ((nI ((m + j) - i)) - r) () _ _ _ _ d_X_changes_22 (by rw [h2]; exact sw_chg hlt hij hj hm hn) h

set_option maxHeartbeats 4000000 in
set_option maxRecDepth 100000 in
theorem c_X_changesB {fa fb fr fc fR fD : Nat → Int32} {m n : Nat} {i j : Int32} (hv : sw_inv m n fa fb fr fc fR fD) (hlt : sw_let m n fa fb) : MKi 2 y_X_changesB b_X_changesB 3 (some .int) [.int i, .int j] (XW (nI m) (nI n) fa fb fr fc fR fD) (fun r (_ : Unit) => r = an_changesB m n fa fb i j) (fun (_ : Unit) => XW (nI m) (nI n) fa fb fr fc fR fD) := by
  refine ok_i (own := R_X) (by decide) rfl (fun _ => Nat.le_of_ble_eq_true rfl) ?_
  intro l dC dI q cA p e s mi args below meth c A ls Q C hret h hl
  have hx := C.1
  have hb := C.2.1
  have hl : lv_has ls 3 [(0, .ref (q 0)), (1, .int i), (2, .int j)] := hl
  obtain ⟨hm, hn, hr0, hr1, hc0, hc1, cb0, cb1⟩ := id hv
  refine lv_aload_n hx hb d_X_changesB_0 rfl (lv_at hl 0 rfl) ?_
  refine lv_iload_n hx hb d_X_changesB_1 rfl (lv_at hl 1 rfl) ?_
  refine lv_iload_n hx hb d_X_changesB_2 rfl (lv_at hl 2 rfl) ?_
  refine lv_aload_n hx hb d_X_changesB_3 rfl (lv_at hl 0 rfl) ?_
  refine gX_n C h d_X_changesB_4 ?_
  refine ck_i (n := 3) (ci := 0) (rest := []) C h (c_X_badStretch (i := i) (j := j) (x := nI n)) rfl rfl (tb_goodIn tl_X_63 ti_X_badStretch ts_X_badStretch tn_X tc_X_badStretch) (by decide +kernel) ⟨Nat.le_of_ble_eq_true rfl, Nat.le_of_ble_eq_true rfl⟩ rfl hl rfl (Nat.le_of_ble_eq_true rfl) ⟨Nat.zero_le _, Nat.zero_le _⟩ d_X_changesB_7 (fun r u H locs hp h => ?_)
  refine lv_if_eq (tgt := 15) hx hb d_X_changesB_10 (by decide) (fun c1 => ?_) (fun c1 => ?_)
  · have hg := sw_is_f hp c1
    have hgg := hg
    obtain ⟨i, j, rfl, rfl, hij, hj⟩ := sw_goodS (by omega) hg
    refine lv_aload_n hx hb d_X_changesB_15 rfl (lv_at hl 0 rfl) ?_
    refine lv_iload_n hx hb d_X_changesB_16 rfl (lv_at hl 1 rfl) ?_
    refine lv_iload_n hx hb d_X_changesB_17 rfl (lv_at hl 2 rfl) ?_
    refine ck_i (n := 2) (ci := 0) (rest := []) C h (c_X_changes (i := i) (j := j) hv hlt hij hj) rfl rfl (tb_goodIn tl_X_78 ti_X_changes ts_X_changes tn_X tc_X_changes) (by decide +kernel) ⟨Nat.le_of_ble_eq_true rfl, Nat.le_of_ble_eq_true rfl⟩ rfl hl rfl (Nat.le_of_ble_eq_true rfl) ⟨Nat.zero_le _, Nat.zero_le _⟩ d_X_changesB_18 (fun r2 u H locs h2 h => ?_)
    exact hret r2 () _ _ _ _ d_X_changesB_21 (by rw [h2]; unfold an_changesB; rw [if_neg hgg, iN_n (by omega), iN_n (by omega)]) h
  · refine lv_iconst (v := (-1)) hx hb d_X_changesB_13 (by decide) ?_
    exact hret (-1) () _ _ _ _ d_X_changesB_14 (by unfold an_changesB; rw [if_pos (sw_is_t hp c1)]) h

set_option maxHeartbeats 4000000 in
set_option maxRecDepth 100000 in
theorem c_X_changesA {fa fb fr fc fR fD : Nat → Int32} {m n : Nat} {i j : Int32} (hv : sw_inv m n fa fb fr fc fR fD) (hlt : sw_let m n fa fb) : MKi 2 y_X_changesA b_X_changesA 4 (some .int) [.int i, .int j] (XW (nI m) (nI n) fa fb fr fc fR fD) (fun r (_ : Unit) => r = an_changesA m n fa fb i j) (fun (_ : Unit) => XW (nI m) (nI n) fa fb fr fc fR fD) := by
  refine ok_i (own := R_X) (by decide) rfl (fun _ => Nat.le_of_ble_eq_true rfl) ?_
  intro l dC dI q cA p e s mi args below meth c A ls Q C hret h hl
  have hx := C.1
  have hb := C.2.1
  have hl : lv_has ls 4 [(0, .ref (q 0)), (1, .int i), (2, .int j)] := hl
  obtain ⟨hm, hn, hr0, hr1, hc0, hc1, cb0, cb1⟩ := id hv
  refine lv_aload_n hx hb d_X_changesA_0 rfl (lv_at hl 0 rfl) ?_
  refine lv_iload_n hx hb d_X_changesA_1 rfl (lv_at hl 1 rfl) ?_
  refine lv_iload_n hx hb d_X_changesA_2 rfl (lv_at hl 2 rfl) ?_
  refine lv_aload_n hx hb d_X_changesA_3 rfl (lv_at hl 0 rfl) ?_
  refine gX_m C h d_X_changesA_4 ?_
  refine ck_i (n := 3) (ci := 0) (rest := []) C h (c_X_badStretch (i := i) (j := j) (x := nI m)) rfl rfl (tb_goodIn tl_X_63 ti_X_badStretch ts_X_badStretch tn_X tc_X_badStretch) (by decide +kernel) ⟨Nat.le_of_ble_eq_true rfl, Nat.le_of_ble_eq_true rfl⟩ rfl hl rfl (Nat.le_of_ble_eq_true rfl) ⟨Nat.zero_le _, Nat.zero_le _⟩ d_X_changesA_7 (fun r u H locs hp h => ?_)
  refine lv_if_eq (tgt := 15) hx hb d_X_changesA_10 (by decide) (fun c1 => ?_) (fun c1 => ?_)
  · have hg := sw_is_f hp c1
    have hgg := hg
    obtain ⟨i, j, rfl, rfl, hij, hj⟩ := sw_goodS (by omega) hg
    refine lv_aload_n hx hb d_X_changesA_15 rfl (lv_at hl 0 rfl) ?_
    refine lv_iconst (v := nI 1) hx hb d_X_changesA_16 (by decide) ?_
    refine lv_iconst (v := nI 2) hx hb d_X_changesA_17 (by decide) ?_
    refine lv_iload_n hx hb d_X_changesA_18 rfl (lv_at hl 1 rfl) ?_
    refine ni_mul hx hb d_X_changesA_19 ?_
    refine lv_iconst (v := nI 2) hx hb d_X_changesA_20 (by decide) ?_
    refine lv_iload_n hx hb d_X_changesA_21 rfl (lv_at hl 2 rfl) ?_
    refine ni_mul hx hb d_X_changesA_22 ?_
    refine ck_i (n := 3) (ci := 0) (rest := []) C h (c_X_commonRows (la := sw_sp fa) (lb := sw_sp fb) (β := 1) (M := 2 * m) (N := 2 * n) (i := 2 * i) (j := 2 * j) (by decide) (by omega) (by omega) hr1 hc1 cb1 (by omega) (by omega)) rfl rfl (tb_goodIn tl_X_71 ti_X_commonRows ts_X_commonRows tn_X tc_X_commonRows) (by decide +kernel) ⟨Nat.le_of_ble_eq_true rfl, Nat.le_of_ble_eq_true rfl⟩ rfl hl rfl (Nat.le_of_ble_eq_true rfl) ⟨Nat.zero_le _, Nat.zero_le _⟩ d_X_changesA_23 (fun r2 u H locs h2 h => ?_)
    refine lv_istore_n (lv' := [(3, .int r2), (0, .ref (q 0)), (1, .int (nI i)), (2, .int (nI j))]) hx hb d_X_changesA_26 rfl hl (by decide) rfl (fun ls hl => ?_)
    refine lv_aload_n hx hb d_X_changesA_27 rfl (lv_at hl 1 rfl) ?_
    refine gX_n C h d_X_changesA_28 ?_
    refine lv_iload_n hx hb d_X_changesA_31 rfl (lv_at hl 3 rfl) ?_
    refine ni_add hx hb d_X_changesA_32 ?_
    refine lv_iload_n hx hb d_X_changesA_33 rfl (lv_at hl 2 rfl) ?_
    refine ni_sub hx hb (by omega) d_X_changesA_34 ?_
    refine lv_iload_n hx hb d_X_changesA_35 rfl (lv_at hl 0 rfl) ?_
    refine lv_isub hx hb d_X_changesA_36 ?_
    exact hret ((nI ((n + j) - i)) - r2) () _ _ _ _ d_X_changesA_37 (by rw [h2, sw_chgA hlt hij hj hm hn]; unfold an_changesA; rw [if_neg hgg, iN_n (by omega), iN_n (by omega)]) h
  · refine lv_iconst (v := (-1)) hx hb d_X_changesA_13 (by decide) ?_
    exact hret (-1) () _ _ _ _ d_X_changesA_14 (by unfold an_changesA; rw [if_pos (sw_is_t hp c1)]) h
end
section
/-! THE CLASS, 5: searches; printed by the walker -/
set_option maxHeartbeats 4000000 in
set_option maxRecDepth 100000 in
theorem c_X_nearestAt {fa fb fr fc fR fD : Nat → Int32} {m n : Nat} (hv : sw_inv m n fa fb fr fc fR fD) (hlt : sw_let m n fa fb) : MKi 2 y_X_nearestAt b_X_nearestAt 6 (some .int) [] (XW (nI m) (nI n) fa fb fr fc fR fD) (fun r (_ : Unit) => an_isAt m n fa fb r) (fun (_ : Unit) => XW (nI m) (nI n) fa fb fr fc fR fD) := by
  refine ok_i (own := R_X) (by decide) rfl (fun _ => Nat.le_of_ble_eq_true rfl) ?_
  intro l dC dI q cA p e s mi args below meth c A ls Q C hret h hl
  have hx := C.1
  have hb := C.2.1
  have hl : lv_has ls 6 [(0, .ref (q 0))] := hl
  obtain ⟨hm, hn, hr0, hr1, hc0, hc1, cb0, cb1⟩ := id hv
  have hg : ∀ i j, i ≤ j → j ≤ n → sw_e fa fb 0 i m (j - i) < 100 := fun i j h1 h2 => by have := sw_e_le fa fb 0 i m (j - i); omega
  refine lv_bipush (v := nI 100) hx hb d_X_nearestAt_0 (by decide) ?_
  refine lv_istore_n (lv' := [(1, .int (nI 100)), (0, .ref (q 0))]) hx hb d_X_nearestAt_2 rfl hl (by decide) rfl (fun ls hl => ?_)
  refine lv_iconst (v := nI 0) hx hb d_X_nearestAt_3 (by decide) ?_
  refine lv_istore_n (lv' := [(2, .int (nI 0)), (1, .int (nI 100)), (0, .ref (q 0))]) hx hb d_X_nearestAt_4 rfl hl (by decide) rfl (fun ls hl => ?_)
  refine lv_iconst (v := nI 0) hx hb d_X_nearestAt_5 (by decide) ?_
  refine lv_istore_n (lv' := [(3, .int (nI 0)), (2, .int (nI 0)), (1, .int (nI 100)), (0, .ref (q 0))]) hx hb d_X_nearestAt_6 rfl hl (by decide) rfl (fun ls hl => ?_)
  have loopI : ∀ (fuel : Nat) (i b a : Nat), i ≤ n + 1 → n + 1 + 1 ≤ i + fuel → (b < 1000) → (sw_na (fun i j => sw_e fa fb 0 i m (j - i)) n i i b a) → ∀ (H : Heap) (locs : List Loc) (ls : Array Slot), WK s dC dI A (XW (nI m) (nI n) fa fb fr fc fR fD q cA) H locs → lv_has ls 6 [(0, .ref (q 0)), (1, .int (nI b)), (2, .int (nI a)), (3, .int (nI i))] → W p l e (rm_L 2) s mi args below meth c H locs 0 0 Q (F0 mi 7 ls []) := by
    intro fuel
    induction fuel with
    | zero => intro i b a hle hfu; exact absurd hfu (by omega)
    | succ fuel ih_loopI =>
      intro i b a hle hfu hb1 hna H locs ls h hl
      refine lv_iload_n hx hb d_X_nearestAt_7 rfl (lv_at hl 3 rfl) ?_
      refine lv_aload_n hx hb d_X_nearestAt_8 rfl (lv_at hl 0 rfl) ?_
      refine gX_n C h d_X_nearestAt_9 ?_
      refine nb_gt (tgt := 65) hx hb (by omega) (by omega) d_X_nearestAt_12 (by decide) (fun ci => ?_) (fun ci => ?_)
      · obtain rfl : i = n + 1 := by omega
        refine lv_iload_n hx hb d_X_nearestAt_65 rfl (lv_at hl 2 rfl) ?_
        exact hret (nI a) () _ _ _ _ d_X_nearestAt_66 (sw_na_e hna) h
      · refine lv_iload_n hx hb d_X_nearestAt_15 rfl (lv_at hl 3 rfl) ?_
        refine lv_istore (lv' := [(4, .int (nI i)), (0, .ref (q 0)), (1, .int (nI b)), (2, .int (nI a)), (3, .int (nI i))]) hx hb d_X_nearestAt_16 hl (by decide) rfl (fun ls hl => ?_)
        have loopJ : ∀ (fuelJ : Nat) (j b a : Nat), j ≤ n + 1 → n + 1 + 1 ≤ j + fuelJ → (i ≤ j) → (b < 1000) → (sw_na (fun i j => sw_e fa fb 0 i m (j - i)) n i j b a) → ∀ (H : Heap) (locs : List Loc) (ls : Array Slot), WK s dC dI A (XW (nI m) (nI n) fa fb fr fc fR fD q cA) H locs → lv_has ls 6 [(0, .ref (q 0)), (1, .int (nI b)), (2, .int (nI a)), (3, .int (nI i)), (4, .int (nI j))] → W p l e (rm_L 2) s mi args below meth c H locs 0 0 Q (F0 mi 18 ls []) := by
          intro fuelJ
          induction fuelJ with
          | zero => intro j b a hle hfu; exact absurd hfu (by omega)
          | succ fuelJ ih_loopJ =>
            intro j b a hle hfu hij hb1 hna H locs ls h hl
            refine lv_iload hx hb d_X_nearestAt_18 (lv_at hl 4 rfl) ?_
            refine lv_aload_n hx hb d_X_nearestAt_20 rfl (lv_at hl 0 rfl) ?_
            refine gX_n C h d_X_nearestAt_21 ?_
            refine nb_gt (tgt := 59) hx hb (by omega) (by omega) d_X_nearestAt_24 (by decide) (fun cj => ?_) (fun cj => ?_)
            · obtain rfl : j = n + 1 := by omega
              refine ni_iinc (k := 3) (lv' := [(3, .int (nI (i + 1))), (0, .ref (q 0)), (1, .int (nI b)), (2, .int (nI a)), (4, .int (nI (n + 1)))]) hx hb d_X_nearestAt_59 hl rfl (by decide) rfl (fun ls hl => ?_)
              refine lv_goto (tgt := 7) hx hb d_X_nearestAt_62 (by decide) ?_
              exact ih_loopI (i + 1) b a (by omega) (by omega) (hb1) (sw_na_r hna) _ _ _ h (lv_sub hl [1, 2, 3, 0] rfl)
            · refine lv_aload_n hx hb d_X_nearestAt_27 rfl (lv_at hl 0 rfl) ?_
              refine lv_iload_n hx hb d_X_nearestAt_28 rfl (lv_at hl 3 rfl) ?_
              refine lv_iload hx hb d_X_nearestAt_29 (lv_at hl 4 rfl) ?_
              refine ck_i (n := 2) (ci := 0) (rest := []) C h (c_X_changes (i := i) (j := j) hv hlt hij (by omega)) rfl rfl (tb_goodIn tl_X_78 ti_X_changes ts_X_changes tn_X tc_X_changes) (by decide +kernel) ⟨Nat.le_of_ble_eq_true rfl, Nat.le_of_ble_eq_true rfl⟩ rfl hl rfl (Nat.le_of_ble_eq_true rfl) ⟨Nat.zero_le _, Nat.zero_le _⟩ d_X_nearestAt_31 (fun r2 u H locs h2 h => ?_)
              subst h2
              have hgj := hg i j hij (by omega)
              refine lv_istore (lv' := [(5, .int (nI (sw_e fa fb 0 i m (j - i)))), (0, .ref (q 0)), (1, .int (nI b)), (2, .int (nI a)), (3, .int (nI i)), (4, .int (nI j))]) hx hb d_X_nearestAt_34 hl (by decide) rfl (fun ls hl => ?_)
              refine lv_iload hx hb d_X_nearestAt_36 (lv_at hl 0 rfl) ?_
              refine lv_iload_n hx hb d_X_nearestAt_38 rfl (lv_at hl 2 rfl) ?_
              refine nb_ge (tgt := 53) hx hb (by omega) (by omega) d_X_nearestAt_39 (by decide) (fun c2 => ?_) (fun c2 => ?_)
              · refine ni_iinc (k := 5) (lv' := [(4, .int (nI (j + 1))), (5, .int (nI (sw_e fa fb 0 i m (j - i)))), (0, .ref (q 0)), (1, .int (nI b)), (2, .int (nI a)), (3, .int (nI i))]) hx hb d_X_nearestAt_53 hl rfl (by decide) rfl (fun ls hl => ?_)
                refine lv_goto (tgt := 18) hx hb d_X_nearestAt_56 (by decide) ?_
                exact ih_loopJ (j + 1) b a (by omega) (by omega) (by omega) (hb1) (sw_na_f hna hgj c2) _ _ _ h (lv_sub hl [2, 3, 4, 5, 0] rfl)
              · refine lv_iload hx hb d_X_nearestAt_42 (lv_at hl 0 rfl) ?_
                refine lv_istore_n (lv' := [(1, .int (nI (sw_e fa fb 0 i m (j - i)))), (5, .int (nI (sw_e fa fb 0 i m (j - i)))), (0, .ref (q 0)), (2, .int (nI a)), (3, .int (nI i)), (4, .int (nI j))]) hx hb d_X_nearestAt_44 rfl hl (by decide) rfl (fun ls hl => ?_)
                refine lv_bipush (v := nI 16) hx hb d_X_nearestAt_45 (by decide) ?_
                refine lv_iload_n hx hb d_X_nearestAt_47 rfl (lv_at hl 4 rfl) ?_
                refine ni_mul hx hb d_X_nearestAt_48 ?_
                refine lv_iload hx hb d_X_nearestAt_49 (lv_at hl 5 rfl) ?_
                refine ni_add hx hb d_X_nearestAt_51 ?_
                refine lv_istore_n (lv' := [(2, .int (nI ((16 * i) + j))), (1, .int (nI (sw_e fa fb 0 i m (j - i)))), (5, .int (nI (sw_e fa fb 0 i m (j - i)))), (0, .ref (q 0)), (3, .int (nI i)), (4, .int (nI j))]) hx hb d_X_nearestAt_52 rfl hl (by decide) rfl (fun ls hl => ?_)
                refine ni_iinc (k := 5) (lv' := [(4, .int (nI (j + 1))), (2, .int (nI ((16 * i) + j))), (1, .int (nI (sw_e fa fb 0 i m (j - i)))), (5, .int (nI (sw_e fa fb 0 i m (j - i)))), (0, .ref (q 0)), (3, .int (nI i))]) hx hb d_X_nearestAt_53 hl rfl (by decide) rfl (fun ls hl => ?_)
                refine lv_goto (tgt := 18) hx hb d_X_nearestAt_56 (by decide) ?_
                exact ih_loopJ (j + 1) (sw_e fa fb 0 i m (j - i)) (16 * i + j) (by omega) (by omega) (by omega) (by omega) (sw_na_t hna hij (by omega) c2) _ _ _ h (lv_sub hl [4, 2, 1, 5, 0] rfl)
        exact loopJ (n + 1 + 1) i b a (by omega) (by omega) (Nat.le_refl _) (hb1) (hna) _ _ _ h (lv_sub hl [1, 2, 3, 4, 0] rfl)
  exact loopI (n + 1 + 1) 0 100 0 (by omega) (by omega) (by decide) (sw_na_0 _ _) _ _ _ h (lv_sub hl [3, 2, 1, 0] rfl)

set_option maxHeartbeats 4000000 in
set_option maxRecDepth 100000 in
theorem c_X_nearest {fa fb fr fc fR fD : Nat → Int32} {m n : Nat} (hv : sw_inv m n fa fb fr fc fR fD) (hlt : sw_let m n fa fb) : MKi 3 y_X_nearest b_X_nearest 2 (some .int) [] (XW (nI m) (nI n) fa fb fr fc fR fD) (fun r (_ : Unit) => an_isMin m n fa fb r) (fun (_ : Unit) => XW (nI m) (nI n) fa fb fr fc fR fD) := by
  refine ok_i (own := R_X) (by decide) rfl (fun _ => Nat.le_of_ble_eq_true rfl) ?_
  intro l dC dI q cA p e s mi args below meth c A ls Q C hret h hl
  have hx := C.1
  have hb := C.2.1
  have hl : lv_has ls 2 [(0, .ref (q 0))] := hl
  obtain ⟨hm, hn, hr0, hr1, hc0, hc1, cb0, cb1⟩ := id hv
  refine lv_aload_n hx hb d_X_nearest_0 rfl (lv_at hl 0 rfl) ?_
  refine ck_i (n := 0) (ci := 0) (rest := []) C h (c_X_nearestAt hv hlt) rfl rfl (tb_goodIn tl_X_81 ti_X_nearestAt ts_X_nearestAt tn_X tc_X_nearestAt) (by decide +kernel) ⟨Nat.le_of_ble_eq_true rfl, Nat.le_of_ble_eq_true rfl⟩ rfl hl rfl (Nat.le_of_ble_eq_true rfl) ⟨Nat.zero_le _, Nat.zero_le _⟩ d_X_nearest_1 (fun r u H locs hat h => ?_)
  obtain ⟨i, j, hij, hj, rfl, hmin, -⟩ := hat
  refine lv_istore_n (lv' := [(1, .int (nI (16 * i + j))), (0, .ref (q 0))]) hx hb d_X_nearest_4 rfl hl (by decide) rfl (fun ls hl => ?_)
  refine lv_aload_n hx hb d_X_nearest_5 rfl (lv_at hl 1 rfl) ?_
  refine lv_iload_n hx hb d_X_nearest_6 rfl (lv_at hl 0 rfl) ?_
  refine lv_iconst (v := nI 4) hx hb d_X_nearest_7 (by decide) ?_
  refine ni_shr4 hx hb (by omega) d_X_nearest_8 ?_
  refine ni_top (y := nI i) (by rw [show (16 * i + j) / 16 = i by omega]) ?_
  refine lv_iload_n hx hb d_X_nearest_9 rfl (lv_at hl 0 rfl) ?_
  refine lv_bipush (v := nI 15) hx hb d_X_nearest_10 (by decide) ?_
  refine ni_and15 hx hb (by omega) d_X_nearest_12 ?_
  refine ni_top (y := nI j) (by rw [show (16 * i + j) % 16 = j by omega]) ?_
  refine ck_i (n := 2) (ci := 0) (rest := []) C h (c_X_changes (i := i) (j := j) hv hlt hij hj) rfl rfl (tb_goodIn tl_X_78 ti_X_changes ts_X_changes tn_X tc_X_changes) (by decide +kernel) ⟨Nat.le_of_ble_eq_true rfl, Nat.le_of_ble_eq_true rfl⟩ rfl hl rfl (Nat.le_of_ble_eq_true rfl) ⟨Nat.zero_le _, Nat.zero_le _⟩ d_X_nearest_13 (fun r2 u H locs h2 h => ?_)
  exact hret r2 () _ _ _ _ d_X_nearest_16 (⟨i, j, hij, hj, h2, hmin⟩) h

set_option maxHeartbeats 4000000 in
set_option maxRecDepth 100000 in
theorem c_X_widestOf {mv nv : Int32} {fa fb fr fc fR fD : Nat → Int32} {la lb : Nat → Int32} {β M N w g : Nat} (hβ : β < 3) (hM : M ≤ 20) (hN : N ≤ 28) (hr : fr β = nI M) (hc : fc β = nI N) (hcb : sw_cb la lb β M N fR fD) (hg : g + w ≤ N + 1) : MKi 1 y_X_widestOf b_X_widestOf 7 (some .int) [.int (nI β), .int (nI w), .int (nI g)] (XW mv nv fa fb fr fc fR fD) (fun r (_ : Unit) => r = nI (sw_best (fun i => sw_d la lb 0 i M w) g)) (fun (_ : Unit) => XW mv nv fa fb fr fc fR fD) := by
  refine ok_i (own := R_X) (by decide) rfl (fun _ => Nat.le_of_ble_eq_true rfl) ?_
  intro l dC dI q cA p e s mi args below meth c A ls Q C hret h hl
  have hx := C.1
  have hb := C.2.1
  have hl : lv_has ls 7 [(0, .ref (q 0)), (1, .int (nI β)), (2, .int (nI w)), (3, .int (nI g))] := hl
  refine lv_iconst (v := nI 0) hx hb d_X_widestOf_0 (by decide) ?_
  refine lv_istore (lv' := [(4, .int (nI 0)), (0, .ref (q 0)), (1, .int (nI β)), (2, .int (nI w)), (3, .int (nI g))]) hx hb d_X_widestOf_1 hl (by decide) rfl (fun ls hl => ?_)
  refine lv_iconst (v := nI 0) hx hb d_X_widestOf_3 (by decide) ?_
  refine lv_istore (lv' := [(5, .int (nI 0)), (4, .int (nI 0)), (0, .ref (q 0)), (1, .int (nI β)), (2, .int (nI w)), (3, .int (nI g))]) hx hb d_X_widestOf_4 hl (by decide) rfl (fun ls hl => ?_)
  have loop : ∀ (fuel : Nat) (i b : Nat), i ≤ g → g + 1 ≤ i + fuel → (b = sw_best (fun i => sw_d la lb 0 i M w) i) → ∀ (H : Heap) (locs : List Loc) (ls : Array Slot), WK s dC dI A (XW mv nv fa fb fr fc fR fD q cA) H locs → lv_has ls 7 [(0, .ref (q 0)), (1, .int (nI β)), (2, .int (nI w)), (3, .int (nI g)), (4, .int (nI b)), (5, .int (nI i))] → W p l e (rm_L 1) s mi args below meth c H locs 0 0 Q (F0 mi 6 ls []) := by
    intro fuel
    induction fuel with
    | zero => intro i b hle hfu; exact absurd hfu (by omega)
    | succ fuel ih_loop =>
      intro i b hle hfu hb1 H locs ls h hl
      have hb2 : b ≤ M := by rw [hb1]; exact sw_best_le (fun i => sw_d_le la lb 0 i M w) i
      refine lv_iload hx hb d_X_widestOf_6 (lv_at hl 5 rfl) ?_
      refine lv_iload_n hx hb d_X_widestOf_8 rfl (lv_at hl 3 rfl) ?_
      refine nb_ge (tgt := 47) hx hb (by omega) (by omega) d_X_widestOf_9 (by decide) (fun ci => ?_) (fun ci => ?_)
      · obtain rfl : g = i := by omega
        refine lv_iload hx hb d_X_widestOf_47 (lv_at hl 4 rfl) ?_
        exact hret (nI b) () _ _ _ _ d_X_widestOf_49 (by rw [hb1]) h
      · refine lv_aload_n hx hb d_X_widestOf_12 rfl (lv_at hl 0 rfl) ?_
        refine lv_iload_n hx hb d_X_widestOf_13 rfl (lv_at hl 1 rfl) ?_
        refine lv_iload hx hb d_X_widestOf_14 (lv_at hl 5 rfl) ?_
        refine lv_iload hx hb d_X_widestOf_16 (lv_at hl 5 rfl) ?_
        refine lv_iload_n hx hb d_X_widestOf_18 rfl (lv_at hl 2 rfl) ?_
        refine ni_add hx hb d_X_widestOf_19 ?_
        refine ck_i (n := 3) (ci := 0) (rest := []) C h (c_X_common (la := la) (lb := lb) (β := β) (M := M) (N := N) hβ hM hN hr hc hcb) rfl rfl (tb_goodIn tl_X_67 ti_X_common ts_X_common tn_X tc_X_common) (by decide +kernel) ⟨Nat.le_of_ble_eq_true rfl, Nat.le_of_ble_eq_true rfl⟩ rfl hl rfl (Nat.le_of_ble_eq_true rfl) ⟨Nat.zero_le _, Nat.zero_le _⟩ d_X_widestOf_20 (fun r u H locs h2 h => ?_)
        rw [sw_cmB (by omega) (by omega) (by omega) (by omega), show i + w - i = w by omega] at h2
        subst h2
        have hd := sw_d_le la lb 0 i M w
        refine lv_istore (lv' := [(6, .int (nI (sw_d la lb 0 i M w))), (0, .ref (q 0)), (1, .int (nI β)), (2, .int (nI w)), (3, .int (nI g)), (4, .int (nI b)), (5, .int (nI i))]) hx hb d_X_widestOf_23 hl (by decide) rfl (fun ls hl => ?_)
        refine lv_iload hx hb d_X_widestOf_25 (lv_at hl 0 rfl) ?_
        refine lv_iload hx hb d_X_widestOf_27 (lv_at hl 5 rfl) ?_
        refine nb_le (tgt := 37) hx hb (by omega) (by omega) d_X_widestOf_29 (by decide) (fun c2 => ?_) (fun c2 => ?_)
        · refine lv_iload hx hb d_X_widestOf_37 (lv_at hl 5 rfl) ?_
          refine lv_istore (lv' := [(4, .int (nI b)), (6, .int (nI (sw_d la lb 0 i M w))), (0, .ref (q 0)), (1, .int (nI β)), (2, .int (nI w)), (3, .int (nI g)), (5, .int (nI i))]) hx hb d_X_widestOf_39 hl (by decide) rfl (fun ls hl => ?_)
          refine ni_iinc (k := 6) (lv' := [(5, .int (nI (i + 1))), (4, .int (nI b)), (6, .int (nI (sw_d la lb 0 i M w))), (0, .ref (q 0)), (1, .int (nI β)), (2, .int (nI w)), (3, .int (nI g))]) hx hb d_X_widestOf_41 hl rfl (by decide) rfl (fun ls hl => ?_)
          refine lv_goto (tgt := 6) hx hb d_X_widestOf_44 (by decide) ?_
          exact ih_loop (i + 1) b (by omega) (by omega) (by show _ = max (sw_best _ i) _; rw [← hb1]; exact sw_max_f c2) _ _ _ h (lv_sub hl [3, 4, 5, 6, 1, 0] rfl)
        · refine lv_iload hx hb d_X_widestOf_32 (lv_at hl 0 rfl) ?_
          refine lv_goto (tgt := 39) hx hb d_X_widestOf_34 (by decide) ?_
          refine lv_istore (lv' := [(4, .int (nI (sw_d la lb 0 i M w))), (6, .int (nI (sw_d la lb 0 i M w))), (0, .ref (q 0)), (1, .int (nI β)), (2, .int (nI w)), (3, .int (nI g)), (5, .int (nI i))]) hx hb d_X_widestOf_39 hl (by decide) rfl (fun ls hl => ?_)
          refine ni_iinc (k := 6) (lv' := [(5, .int (nI (i + 1))), (4, .int (nI (sw_d la lb 0 i M w))), (6, .int (nI (sw_d la lb 0 i M w))), (0, .ref (q 0)), (1, .int (nI β)), (2, .int (nI w)), (3, .int (nI g))]) hx hb d_X_widestOf_41 hl rfl (by decide) rfl (fun ls hl => ?_)
          refine lv_goto (tgt := 6) hx hb d_X_widestOf_44 (by decide) ?_
          exact ih_loop (i + 1) (sw_d la lb 0 i M w) (by omega) (by omega) (by show _ = max (sw_best _ i) _; rw [← hb1]; exact sw_max_t c2) _ _ _ h (lv_sub hl [3, 4, 5, 6, 1, 0] rfl)
  exact loop (g + 1) 0 0 (by omega) (by omega) (rfl) _ _ _ h (lv_sub hl [2, 3, 4, 5, 1, 0] rfl)

set_option maxHeartbeats 4000000 in
set_option maxRecDepth 100000 in
theorem c_X_shortest {fa fb fr fc fR fD : Nat → Int32} {m n : Nat} {k : Int32} (hv : sw_inv m n fa fb fr fc fR fD) : MKi 2 y_X_shortest b_X_shortest 4 (some .int) [.int k] (XW (nI m) (nI n) fa fb fr fc fR fD) (fun r (_ : Unit) => an_isShort m n fa fb k r) (fun (_ : Unit) => XW (nI m) (nI n) fa fb fr fc fR fD) := by
  refine ok_i (own := R_X) (by decide) rfl (fun _ => Nat.le_of_ble_eq_true rfl) ?_
  intro l dC dI q cA p e s mi args below meth c A ls Q C hret h hl
  have hx := C.1
  have hb := C.2.1
  have hl : lv_has ls 4 [(0, .ref (q 0)), (1, .int k)] := hl
  obtain ⟨hm, hn, hr0, hr1, hc0, hc1, cb0, cb1⟩ := id hv
  refine lv_iconst (v := nI 0) hx hb d_X_shortest_0 (by decide) ?_
  refine lv_istore_n (lv' := [(2, .int (nI 0)), (0, .ref (q 0)), (1, .int k)]) hx hb d_X_shortest_1 rfl hl (by decide) rfl (fun ls hl => ?_)
  have loop : ∀ (fuel : Nat) (w : Nat), w ≤ n + 1 → n + 1 + 1 ≤ w + fuel → (∀ w', w' < w → ¬ k ≤ nI (sw_wid fa fb m n w')) → ∀ (H : Heap) (locs : List Loc) (ls : Array Slot), WK s dC dI A (XW (nI m) (nI n) fa fb fr fc fR fD q cA) H locs → lv_has ls 4 [(0, .ref (q 0)), (1, .int k), (2, .int (nI w))] → W p l e (rm_L 2) s mi args below meth c H locs 0 0 Q (F0 mi 2 ls []) := by
    intro fuel
    induction fuel with
    | zero => intro w hle hfu; exact absurd hfu (by omega)
    | succ fuel ih_loop =>
      intro w hle hfu hno H locs ls h hl
      refine lv_iload_n hx hb d_X_shortest_2 rfl (lv_at hl 2 rfl) ?_
      refine lv_aload_n hx hb d_X_shortest_3 rfl (lv_at hl 0 rfl) ?_
      refine gX_n C h d_X_shortest_4 ?_
      refine nb_gt (tgt := 38) hx hb (by omega) (by omega) d_X_shortest_7 (by decide) (fun ci => ?_) (fun ci => ?_)
      · refine lv_bipush (v := (-4)) hx hb d_X_shortest_38 (by decide) ?_
        exact hret (-4) () _ _ _ _ d_X_shortest_40 (Or.inr ⟨rfl, fun w2 h2 => hno w2 (by omega)⟩) h
      · refine lv_aload_n hx hb d_X_shortest_10 rfl (lv_at hl 0 rfl) ?_
        refine lv_iconst (v := nI 0) hx hb d_X_shortest_11 (by decide) ?_
        refine lv_iload_n hx hb d_X_shortest_12 rfl (lv_at hl 2 rfl) ?_
        refine lv_aload_n hx hb d_X_shortest_13 rfl (lv_at hl 0 rfl) ?_
        refine gX_n C h d_X_shortest_14 ?_
        refine lv_iload_n hx hb d_X_shortest_17 rfl (lv_at hl 2 rfl) ?_
        refine ni_sub hx hb (by omega) d_X_shortest_18 ?_
        refine lv_iconst (v := nI 1) hx hb d_X_shortest_19 (by decide) ?_
        refine ni_add hx hb d_X_shortest_20 ?_
        refine ck_i (n := 3) (ci := 0) (rest := []) C h (c_X_widestOf (la := fa) (lb := fb) (β := 0) (M := m) (N := n) (w := w) (g := n - w + 1) (by decide) (by omega) (by omega) hr0 hc0 cb0 (by omega)) rfl rfl (tb_goodIn tl_X_85 ti_X_widestOf ts_X_widestOf tn_X tc_X_widestOf) (by decide +kernel) ⟨Nat.le_of_ble_eq_true rfl, Nat.le_of_ble_eq_true rfl⟩ rfl hl rfl (Nat.le_of_ble_eq_true rfl) ⟨Nat.zero_le _, Nat.zero_le _⟩ d_X_shortest_21 (fun r u H locs h2 h => ?_)
        refine lv_istore_n (lv' := [(3, .int r), (0, .ref (q 0)), (1, .int k), (2, .int (nI w))]) hx hb d_X_shortest_24 rfl hl (by decide) rfl (fun ls hl => ?_)
        refine lv_iload_n hx hb d_X_shortest_25 rfl (lv_at hl 0 rfl) ?_
        refine lv_iload_n hx hb d_X_shortest_26 rfl (lv_at hl 2 rfl) ?_
        refine lv_icmp_lt (tgt := 32) hx hb d_X_shortest_27 (by decide) (fun c2 => ?_) (fun c2 => ?_)
        · rw [h2] at c2
          refine ni_iinc (k := 3) (lv' := [(2, .int (nI (w + 1))), (3, .int r), (0, .ref (q 0)), (1, .int k)]) hx hb d_X_shortest_32 hl rfl (by decide) rfl (fun ls hl => ?_)
          refine lv_goto (tgt := 2) hx hb d_X_shortest_35 (by decide) ?_
          exact ih_loop (w + 1) (by omega) (by omega) (fun w2 hw2 => by
                by_cases q9 : w2 = w
                · rw [q9]; exact sw_nle.mpr c2
                · exact hno w2 (by omega)) _ _ _ h (lv_sub hl [2, 3, 0] rfl)
        · rw [h2] at c2
          refine lv_iload_n hx hb d_X_shortest_30 rfl (lv_at hl 3 rfl) ?_
          exact hret (nI w) () _ _ _ _ d_X_shortest_31 (Or.inl ⟨w, by omega, rfl, sw_nlt.mp c2, hno⟩) h
  exact loop (n + 1 + 1) 0 (by omega) (by omega) (fun w' h9 => absurd h9 (Nat.not_lt_zero w')) _ _ _ h (lv_sub hl [1, 2, 0] rfl)

set_option maxHeartbeats 4000000 in
set_option maxRecDepth 100000 in
theorem c_X_widest {fa fb fr fc fR fD : Nat → Int32} {m n : Nat} {x : Int32} (hv : sw_inv m n fa fb fr fc fR fD) : MKi 2 y_X_widest b_X_widest 2 (some .int) [.int x] (XW (nI m) (nI n) fa fb fr fc fR fD) (fun r (_ : Unit) => r = an_widest m n fa fb x) (fun (_ : Unit) => XW (nI m) (nI n) fa fb fr fc fR fD) := by
  refine ok_i (own := R_X) (by decide) rfl (fun _ => Nat.le_of_ble_eq_true rfl) ?_
  intro l dC dI q cA p e s mi args below meth c A ls Q C hret h hl
  have hx := C.1
  have hb := C.2.1
  have hl : lv_has ls 2 [(0, .ref (q 0)), (1, .int x)] := hl
  obtain ⟨hm, hn, hr0, hr1, hc0, hc1, cb0, cb1⟩ := id hv
  refine lv_iload_n hx hb d_X_widest_0 rfl (lv_at hl 1 rfl) ?_
  refine lv_if_lt (tgt := 12) hx hb d_X_widest_1 (by decide) (fun c1 => ?_) (fun c1 => ?_)
  · refine lv_bipush (v := (-4)) hx hb d_X_widest_12 (by decide) ?_
    exact hret (-4) () _ _ _ _ d_X_widest_14 (by unfold an_widest; rw [if_pos (Or.inl c1)]) h
  · refine lv_iload_n hx hb d_X_widest_4 rfl (lv_at hl 1 rfl) ?_
    refine lv_aload_n hx hb d_X_widest_5 rfl (lv_at hl 0 rfl) ?_
    refine gX_n C h d_X_widest_6 ?_
    refine lv_icmp_le (tgt := 15) hx hb d_X_widest_9 (by decide) (fun c2 => ?_) (fun c2 => ?_)
    · have hgg : ¬ sw_bw x n := fun z => z.elim c1 (sw_nlt.mpr c2)
      obtain ⟨w, hw, rfl⟩ := sw_goodN (by omega) c1 (sw_nlt.mpr c2)
      refine lv_aload_n hx hb d_X_widest_15 rfl (lv_at hl 0 rfl) ?_
      refine lv_iconst (v := nI 0) hx hb d_X_widest_16 (by decide) ?_
      refine lv_iload_n hx hb d_X_widest_17 rfl (lv_at hl 1 rfl) ?_
      refine lv_aload_n hx hb d_X_widest_18 rfl (lv_at hl 0 rfl) ?_
      refine gX_n C h d_X_widest_19 ?_
      refine lv_iload_n hx hb d_X_widest_22 rfl (lv_at hl 1 rfl) ?_
      refine ni_sub hx hb (by omega) d_X_widest_23 ?_
      refine lv_iconst (v := nI 1) hx hb d_X_widest_24 (by decide) ?_
      refine ni_add hx hb d_X_widest_25 ?_
      refine ck_i (n := 3) (ci := 0) (rest := []) C h (c_X_widestOf (la := fa) (lb := fb) (β := 0) (M := m) (N := n) (w := w) (g := n - w + 1) (by decide) (by omega) (by omega) hr0 hc0 cb0 (by omega)) rfl rfl (tb_goodIn tl_X_85 ti_X_widestOf ts_X_widestOf tn_X tc_X_widestOf) (by decide +kernel) ⟨Nat.le_of_ble_eq_true rfl, Nat.le_of_ble_eq_true rfl⟩ rfl hl rfl (Nat.le_of_ble_eq_true rfl) ⟨Nat.zero_le _, Nat.zero_le _⟩ d_X_widest_26 (fun r u H locs h2 h => ?_)
      exact hret r () _ _ _ _ d_X_widest_29 (by rw [h2]; unfold an_widest; rw [if_neg hgg, iN_n (by omega)]; rfl) h
    · refine lv_bipush (v := (-4)) hx hb d_X_widest_12 (by decide) ?_
      exact hret (-4) () _ _ _ _ d_X_widest_14 (by unfold an_widest; rw [if_pos (Or.inr (sw_nle.mp c2))]) h

theorem sw_inv_tw {m n : Nat} {fa fb fr fc R D R1 D1 : Nat → Int32} {x y : Int32} (h : sw_inv m n fa fb fr fc R D) (k : sw_kp 2 R D R1 D1) : sw_inv m n fa fb (upd fr 2 x) (upd fc 2 y) R1 D1 := by
  obtain ⟨hm, hn, hr0, hr1, hc0, hc1, cb0, cb1⟩ := h
  exact ⟨hm, hn, (pk_un (by decide)).trans hr0, (pk_un (by decide)).trans hr1, (pk_un (by decide)).trans hc0, (pk_un (by decide)).trans hc1, sw_cb_kp cb0 k (by decide) (by omega) (by omega), sw_cb_kp cb1 k (by decide) (by omega) (by omega)⟩

set_option maxHeartbeats 4000000 in
set_option maxRecDepth 100000 in
theorem c_X_rotated {fa fb fr fc fR fD : Nat → Int32} {m n : Nat} (hv : sw_inv m n fa fb fr fc fR fD) : MKi 4 y_X_rotated b_X_rotated 1 (some .int) [] (XW (nI m) (nI n) fa fb fr fc fR fD) (fun r (u : sw_F) => r = an_rotated m n fa fb ∧ sw_inv m n fa fb u.1 u.2.1 u.2.2.1 u.2.2.2) (fun u : sw_F => XW (nI m) (nI n) fa fb u.1 u.2.1 u.2.2.1 u.2.2.2) := by
  refine ok_i (own := R_X) (by decide) rfl (fun _ => Nat.le_of_ble_eq_true rfl) ?_
  intro l dC dI q cA p e s mi args below meth c A ls Q C hret h hl
  have hx := C.1
  have hb := C.2.1
  have hl : lv_has ls 1 [(0, .ref (q 0))] := hl
  obtain ⟨hm, hn, hr0, hr1, hc0, hc1, cb0, cb1⟩ := id hv
  refine lv_aload_n hx hb d_X_rotated_0 rfl (lv_at hl 0 rfl) ?_
  refine gX_n C h d_X_rotated_1 ?_
  refine nz_ne (tgt := 9) hx hb (by omega) d_X_rotated_4 (by decide) (fun c1 => ?_) (fun c1 => ?_)
  · refine lv_aload_n hx hb d_X_rotated_9 rfl (lv_at hl 0 rfl) ?_
    refine lv_iconst (v := nI 2) hx hb d_X_rotated_10 (by decide) ?_
    refine lv_aload_n hx hb d_X_rotated_11 rfl (lv_at hl 0 rfl) ?_
    refine gX_m C h d_X_rotated_12 ?_
    refine lv_iconst (v := nI 2) hx hb d_X_rotated_15 (by decide) ?_
    refine lv_aload_n hx hb d_X_rotated_16 rfl (lv_at hl 0 rfl) ?_
    refine gX_n C h d_X_rotated_17 ?_
    refine ni_mul hx hb d_X_rotated_20 ?_
    refine ck_v (n := 3) (ci := 0) (rest := []) C h (c_X_combAll (β := 2) (M := m) (N := 2 * n) (by decide) hn (by omega) (by omega)) rfl rfl (tb_goodIn tl_X_53 ti_X_combAll ts_X_combAll tn_X tc_X_combAll) (by decide +kernel) ⟨Nat.le_of_ble_eq_true rfl, Nat.le_of_ble_eq_true rfl⟩ rfl hl rfl (Nat.le_of_ble_eq_true rfl) ⟨Nat.zero_le _, Nat.zero_le _⟩ d_X_rotated_21 (fun u H locs h0 h => ?_)
    obtain ⟨R1, D1⟩ := u
    refine lv_aload_n hx hb d_X_rotated_24 rfl (lv_at hl 0 rfl) ?_
    refine lv_iconst (v := nI 2) hx hb d_X_rotated_25 (by decide) ?_
    refine lv_aload_n hx hb d_X_rotated_26 rfl (lv_at hl 0 rfl) ?_
    refine gX_n C h d_X_rotated_27 ?_
    refine lv_aload_n hx hb d_X_rotated_30 rfl (lv_at hl 0 rfl) ?_
    refine gX_n C h d_X_rotated_31 ?_
    refine ck_i (n := 3) (ci := 0) (rest := []) C h (c_X_widestOf (la := sw_lA fa 2) (lb := sw_lB fb n 2) (β := 2) (M := m) (N := 2 * n) (w := n) (g := n) (by decide) (by omega) (by omega) pk_us pk_us h0.1 (by omega)) rfl rfl (tb_goodIn tl_X_85 ti_X_widestOf ts_X_widestOf tn_X tc_X_widestOf) (by decide +kernel) ⟨Nat.le_of_ble_eq_true rfl, Nat.le_of_ble_eq_true rfl⟩ rfl hl rfl (Nat.le_of_ble_eq_true rfl) ⟨Nat.zero_le _, Nat.zero_le _⟩ d_X_rotated_34 (fun r u H locs h2 h => ?_)
    exact hret r (upd fr 2 (nI m), upd fc 2 (nI (2 * n)), R1, D1) _ _ _ _ d_X_rotated_37 (⟨by rw [h2, sw_twice]; rfl, sw_inv_tw hv h0.2⟩) h
  · refine lv_iconst (v := nI 0) hx hb d_X_rotated_7 (by decide) ?_
    exact hret (nI 0) (fr, fc, fR, fD) _ _ _ _ d_X_rotated_8 (⟨by subst c1; rfl, hv⟩) h

set_option maxHeartbeats 4000000 in
set_option maxRecDepth 100000 in
theorem c_X_tight {fa fb fr fc fR fD : Nat → Int32} {m n : Nat} (hv : sw_inv m n fa fb fr fc fR fD) : MKi 1 y_X_tight b_X_tight 7 (some .int) [] (XW (nI m) (nI n) fa fb fr fc fR fD) (fun r (_ : Unit) => r = an_tight m n fa fb) (fun (_ : Unit) => XW (nI m) (nI n) fa fb fr fc fR fD) := by
  refine ok_i (own := R_X) (by decide) rfl (fun _ => Nat.le_of_ble_eq_true rfl) ?_
  intro l dC dI q cA p e s mi args below meth c A ls Q C hret h hl
  have hx := C.1
  have hb := C.2.1
  have hl : lv_has ls 7 [(0, .ref (q 0))] := hl
  obtain ⟨hm, hn, hr0, hr1, hc0, hc1, cb0, cb1⟩ := id hv
  refine lv_aload_n hx hb d_X_tight_0 rfl (lv_at hl 0 rfl) ?_
  refine gX_n C h d_X_tight_1 ?_
  refine lv_iconst (v := nI 1) hx hb d_X_tight_4 (by decide) ?_
  refine ni_add hx hb d_X_tight_5 ?_
  refine lv_istore_n (lv' := [(1, .int (nI (n + 1))), (0, .ref (q 0))]) hx hb d_X_tight_6 rfl hl (by decide) rfl (fun ls hl => ?_)
  refine lv_iconst (v := nI 0) hx hb d_X_tight_7 (by decide) ?_
  refine lv_istore_n (lv' := [(2, .int (nI 0)), (1, .int (nI (n + 1))), (0, .ref (q 0))]) hx hb d_X_tight_8 rfl hl (by decide) rfl (fun ls hl => ?_)
  have loopI : ∀ (fuel : Nat) (i k : Nat), i ≤ n → n + 1 ≤ i + fuel → (k = n + 1 + sw_sum (fun i => sw_cnt (sw_q1 fa fb m i) (n - i)) i) → ∀ (H : Heap) (locs : List Loc) (ls : Array Slot), WK s dC dI A (XW (nI m) (nI n) fa fb fr fc fR fD q cA) H locs → lv_has ls 7 [(0, .ref (q 0)), (1, .int (nI k)), (2, .int (nI i))] → W p l e (rm_L 1) s mi args below meth c H locs 0 0 Q (F0 mi 9 ls []) := by
    intro fuel
    induction fuel with
    | zero => intro i k hle hfu; exact absurd hfu (by omega)
    | succ fuel ih_loopI =>
      intro i k hle hfu hk H locs ls h hl
      refine lv_iload_n hx hb d_X_tight_9 rfl (lv_at hl 2 rfl) ?_
      refine lv_aload_n hx hb d_X_tight_10 rfl (lv_at hl 0 rfl) ?_
      refine gX_n C h d_X_tight_11 ?_
      refine nb_ge (tgt := 89) hx hb (by omega) (by omega) d_X_tight_14 (by decide) (fun ci => ?_) (fun ci => ?_)
      · obtain rfl : n = i := by omega
        refine lv_iload_n hx hb d_X_tight_89 rfl (lv_at hl 1 rfl) ?_
        exact hret (nI k) () _ _ _ _ d_X_tight_90 (by rw [hk]; exact sw_nt_q fa fb m n) h
      · refine lv_iload_n hx hb d_X_tight_17 rfl (lv_at hl 2 rfl) ?_
        refine lv_iconst (v := nI 1) hx hb d_X_tight_18 (by decide) ?_
        refine ni_add hx hb d_X_tight_19 ?_
        refine lv_istore_n (lv' := [(3, .int (nI (i + 1))), (0, .ref (q 0)), (1, .int (nI k)), (2, .int (nI i))]) hx hb d_X_tight_20 rfl hl (by decide) rfl (fun ls hl => ?_)
        have loopJ : ∀ (fuelJ : Nat) (d k : Nat), d ≤ n - i → n - i + 1 ≤ d + fuelJ → (k = n + 1 + sw_sum (fun i => sw_cnt (sw_q1 fa fb m i) (n - i)) i + sw_cnt (sw_q1 fa fb m i) d) → ∀ (H : Heap) (locs : List Loc) (ls : Array Slot), WK s dC dI A (XW (nI m) (nI n) fa fb fr fc fR fD q cA) H locs → lv_has ls 7 [(0, .ref (q 0)), (1, .int (nI k)), (2, .int (nI i)), (3, .int (nI (i + 1 + d)))] → W p l e (rm_L 1) s mi args below meth c H locs 0 0 Q (F0 mi 21 ls []) := by
          intro fuelJ
          induction fuelJ with
          | zero => intro d k hle hfu; exact absurd hfu (by omega)
          | succ fuelJ ih_loopJ =>
            intro d k hle hfu hk H locs ls h hl
            refine lv_iload_n hx hb d_X_tight_21 rfl (lv_at hl 3 rfl) ?_
            refine lv_aload_n hx hb d_X_tight_22 rfl (lv_at hl 0 rfl) ?_
            refine gX_n C h d_X_tight_23 ?_
            refine nb_gt (tgt := 83) hx hb (by omega) (by omega) d_X_tight_26 (by decide) (fun cj => ?_) (fun cj => ?_)
            · obtain rfl : n - i = d := by omega
              refine ni_iinc (k := 2) (lv' := [(2, .int (nI (i + 1))), (0, .ref (q 0)), (1, .int (nI k)), (3, .int (nI (i + 1 + (n - i))))]) hx hb d_X_tight_83 hl rfl (by decide) rfl (fun ls hl => ?_)
              refine lv_goto (tgt := 9) hx hb d_X_tight_86 (by decide) ?_
              exact ih_loopI (i + 1) k (by omega) (by omega) (by rw [hk, Nat.add_assoc]; rfl) _ _ _ h (lv_sub hl [1, 2, 0] rfl)
            · refine lv_aload_n hx hb d_X_tight_29 rfl (lv_at hl 0 rfl) ?_
              refine lv_iconst (v := nI 0) hx hb d_X_tight_30 (by decide) ?_
              refine lv_iload_n hx hb d_X_tight_31 rfl (lv_at hl 2 rfl) ?_
              refine lv_iload_n hx hb d_X_tight_32 rfl (lv_at hl 3 rfl) ?_
              refine ck_i (n := 3) (ci := 0) (rest := []) C h (c_X_common (la := fa) (lb := fb) (β := 0) (M := m) (N := n) (by decide) (by omega) (by omega) hr0 hc0 cb0) rfl rfl (tb_goodIn tl_X_67 ti_X_common ts_X_common tn_X tc_X_common) (by decide +kernel) ⟨Nat.le_of_ble_eq_true rfl, Nat.le_of_ble_eq_true rfl⟩ rfl hl rfl (Nat.le_of_ble_eq_true rfl) ⟨Nat.zero_le _, Nat.zero_le _⟩ d_X_tight_33 (fun r u H locs h1 h => ?_)
              rw [sw_cmB (by omega) (by omega) (by omega) (by omega), show (i + 1 + d) - i = d + 1 by omega] at h1
              subst h1
              have hd_h1 := sw_d_le fa fb 0 i m (d + 1)
              refine lv_istore (lv' := [(4, .int (nI (sw_d fa fb 0 i m (d + 1)))), (0, .ref (q 0)), (1, .int (nI k)), (2, .int (nI i)), (3, .int (nI (i + 1 + d)))]) hx hb d_X_tight_36 hl (by decide) rfl (fun ls hl => ?_)
              refine lv_aload_n hx hb d_X_tight_38 rfl (lv_at hl 1 rfl) ?_
              refine lv_iconst (v := nI 0) hx hb d_X_tight_39 (by decide) ?_
              refine lv_iload_n hx hb d_X_tight_40 rfl (lv_at hl 3 rfl) ?_
              refine lv_iload_n hx hb d_X_tight_41 rfl (lv_at hl 4 rfl) ?_
              refine lv_iconst (v := nI 1) hx hb d_X_tight_42 (by decide) ?_
              refine ni_sub hx hb (by omega) d_X_tight_43 ?_
              refine ni_top (y := nI (i + d)) (by rw [show i + 1 + d - 1 = i + d by omega]) ?_
              refine ck_i (n := 3) (ci := 0) (rest := []) C h (c_X_common (la := fa) (lb := fb) (β := 0) (M := m) (N := n) (by decide) (by omega) (by omega) hr0 hc0 cb0) rfl rfl (tb_goodIn tl_X_67 ti_X_common ts_X_common tn_X tc_X_common) (by decide +kernel) ⟨Nat.le_of_ble_eq_true rfl, Nat.le_of_ble_eq_true rfl⟩ rfl hl rfl (Nat.le_of_ble_eq_true rfl) ⟨Nat.zero_le _, Nat.zero_le _⟩ d_X_tight_44 (fun r u H locs h2 h => ?_)
              rw [sw_cmB (by omega) (by omega) (by omega) (by omega), show (i + d) - i = d by omega] at h2
              subst h2
              have hd_h2 := sw_d_le fa fb 0 i m d
              refine lv_istore (lv' := [(5, .int (nI (sw_d fa fb 0 i m d))), (4, .int (nI (sw_d fa fb 0 i m (d + 1)))), (0, .ref (q 0)), (1, .int (nI k)), (2, .int (nI i)), (3, .int (nI (i + 1 + d)))]) hx hb d_X_tight_47 hl (by decide) rfl (fun ls hl => ?_)
              refine lv_aload_n hx hb d_X_tight_49 rfl (lv_at hl 2 rfl) ?_
              refine lv_iconst (v := nI 0) hx hb d_X_tight_50 (by decide) ?_
              refine lv_iload_n hx hb d_X_tight_51 rfl (lv_at hl 4 rfl) ?_
              refine lv_iconst (v := nI 1) hx hb d_X_tight_52 (by decide) ?_
              refine ni_add hx hb d_X_tight_53 ?_
              refine lv_iload_n hx hb d_X_tight_54 rfl (lv_at hl 5 rfl) ?_
              refine ck_i (n := 3) (ci := 0) (rest := []) C h (c_X_common (la := fa) (lb := fb) (β := 0) (M := m) (N := n) (by decide) (by omega) (by omega) hr0 hc0 cb0) rfl rfl (tb_goodIn tl_X_67 ti_X_common ts_X_common tn_X tc_X_common) (by decide +kernel) ⟨Nat.le_of_ble_eq_true rfl, Nat.le_of_ble_eq_true rfl⟩ rfl hl rfl (Nat.le_of_ble_eq_true rfl) ⟨Nat.zero_le _, Nat.zero_le _⟩ d_X_tight_55 (fun r u H locs h3 h => ?_)
              rw [sw_cmB (by omega) (by omega) (by omega) (by omega), show (i + 1 + d) - (i + 1) = d by omega] at h3
              subst h3
              have hd_h3 := sw_d_le fa fb 0 (i + 1) m d
              refine lv_istore (lv' := [(6, .int (nI (sw_d fa fb 0 (i + 1) m d))), (5, .int (nI (sw_d fa fb 0 i m d))), (4, .int (nI (sw_d fa fb 0 i m (d + 1)))), (0, .ref (q 0)), (1, .int (nI k)), (2, .int (nI i)), (3, .int (nI (i + 1 + d)))]) hx hb d_X_tight_58 hl (by decide) rfl (fun ls hl => ?_)
              refine lv_iload hx hb d_X_tight_60 (lv_at hl 2 rfl) ?_
              refine lv_iload hx hb d_X_tight_62 (lv_at hl 1 rfl) ?_
              refine nb_le (tgt := 77) hx hb (by omega) (by omega) d_X_tight_64 (by decide) (fun c2 => ?_) (fun c2 => ?_)
              · refine ni_iinc (k := 6) (lv' := [(3, .int (nI (i + 1 + d + 1))), (6, .int (nI (sw_d fa fb 0 (i + 1) m d))), (5, .int (nI (sw_d fa fb 0 i m d))), (4, .int (nI (sw_d fa fb 0 i m (d + 1)))), (0, .ref (q 0)), (1, .int (nI k)), (2, .int (nI i))]) hx hb d_X_tight_77 hl rfl (by decide) rfl (fun ls hl => ?_)
                refine lv_goto (tgt := 21) hx hb d_X_tight_80 (by decide) ?_
                exact ih_loopJ (d + 1) k (by omega) (by omega) (by rw [hk, sw_cnt_f (sw_q1_f (Or.inl c2))]) _ _ _ h (lv_sub hl [4, 5, 6, 0] rfl)
              · refine lv_iload hx hb d_X_tight_67 (lv_at hl 2 rfl) ?_
                refine lv_iload hx hb d_X_tight_69 (lv_at hl 0 rfl) ?_
                refine nb_le (tgt := 77) hx hb (by omega) (by omega) d_X_tight_71 (by decide) (fun c3 => ?_) (fun c3 => ?_)
                · refine ni_iinc (k := 6) (lv' := [(3, .int (nI (i + 1 + d + 1))), (6, .int (nI (sw_d fa fb 0 (i + 1) m d))), (5, .int (nI (sw_d fa fb 0 i m d))), (4, .int (nI (sw_d fa fb 0 i m (d + 1)))), (0, .ref (q 0)), (1, .int (nI k)), (2, .int (nI i))]) hx hb d_X_tight_77 hl rfl (by decide) rfl (fun ls hl => ?_)
                  refine lv_goto (tgt := 21) hx hb d_X_tight_80 (by decide) ?_
                  exact ih_loopJ (d + 1) k (by omega) (by omega) (by rw [hk, sw_cnt_f (sw_q1_f (Or.inr c3))]) _ _ _ h (lv_sub hl [4, 5, 6, 0] rfl)
                · refine ni_iinc (k := 4) (lv' := [(1, .int (nI (k + 1))), (6, .int (nI (sw_d fa fb 0 (i + 1) m d))), (5, .int (nI (sw_d fa fb 0 i m d))), (4, .int (nI (sw_d fa fb 0 i m (d + 1)))), (0, .ref (q 0)), (2, .int (nI i)), (3, .int (nI (i + 1 + d)))]) hx hb d_X_tight_74 hl rfl (by decide) rfl (fun ls hl => ?_)
                  refine ni_iinc (k := 6) (lv' := [(3, .int (nI (i + 1 + d + 1))), (1, .int (nI (k + 1))), (6, .int (nI (sw_d fa fb 0 (i + 1) m d))), (5, .int (nI (sw_d fa fb 0 i m d))), (4, .int (nI (sw_d fa fb 0 i m (d + 1)))), (0, .ref (q 0)), (2, .int (nI i))]) hx hb d_X_tight_77 hl rfl (by decide) rfl (fun ls hl => ?_)
                  refine lv_goto (tgt := 21) hx hb d_X_tight_80 (by decide) ?_
                  exact ih_loopJ (d + 1) (k + 1) (by omega) (by omega) (by rw [hk, sw_cnt_t (sw_q1_t c2 c3)]; rfl) _ _ _ h (lv_sub hl [5, 1, 6, 0] rfl)
        exact loopJ (n - i + 1) 0 k (by omega) (by omega) (hk) _ _ _ h (lv_sub hl [1, 2, 3, 0] rfl)
  exact loopI (n + 1) 0 (n + 1) (by omega) (by omega) (rfl) _ _ _ h (lv_sub hl [2, 1, 0] rfl)
end
section
/-! THE REFERENCE, 1: words and tests; printed by the walker -/
set_option maxHeartbeats 4000000 in
set_option maxRecDepth 100000 in
theorem c_Y_isLetter {mv nv : Int32} {fa fb ft fo : Nat → Int32} {x : Int32} : MKi 0 y_Y_isLetter b_Y_isLetter 2 (some .boolean) [.int x] (YW mv nv fa fb ft fo) (fun r (_ : Unit) => sw_is (¬ sw_bl x) r) (fun (_ : Unit) => YW mv nv fa fb ft fo) := by
  refine ok_z (own := R_Y) (by decide) rfl (fun _ => Nat.le_of_ble_eq_true rfl) ?_
  intro l dC dI q cA p e s mi args below meth c A ls Q C hret h hl
  have hx := C.1
  have hb := C.2.1
  have hl : lv_has ls 2 [(0, .ref (q 0)), (1, .int x)] := hl
  refine lv_iload_n hx hb d_Y_isLetter_0 rfl (lv_at hl 1 rfl) ?_
  refine lv_if_lt (tgt := 13) hx hb d_Y_isLetter_1 (by decide) (fun c1 => ?_) (fun c1 => ?_)
  · refine lv_iconst (v := nI 0) hx hb d_Y_isLetter_13 (by decide) ?_
    exact hret (nI 0) () _ _ _ _ d_Y_isLetter_14 (rfl) (Or.inr ⟨fun z => z (Or.inl c1), rfl⟩) h
  · refine lv_iload_n hx hb d_Y_isLetter_4 rfl (lv_at hl 1 rfl) ?_
    refine lv_iconst (v := nI 3) hx hb d_Y_isLetter_5 (by decide) ?_
    refine lv_icmp_gt (tgt := 13) hx hb d_Y_isLetter_6 (by decide) (fun c2 => ?_) (fun c2 => ?_)
    · refine lv_iconst (v := nI 0) hx hb d_Y_isLetter_13 (by decide) ?_
      exact hret (nI 0) () _ _ _ _ d_Y_isLetter_14 (rfl) (Or.inr ⟨fun z => z (Or.inr c2), rfl⟩) h
    · refine lv_iconst (v := nI 1) hx hb d_Y_isLetter_9 (by decide) ?_
      refine lv_goto (tgt := 14) hx hb d_Y_isLetter_10 (by decide) ?_
      exact hret (nI 1) () _ _ _ _ d_Y_isLetter_14 (rfl) (Or.inl ⟨fun z => z.elim c1 c2, rfl⟩) h

set_option maxHeartbeats 4000000 in
set_option maxRecDepth 100000 in
theorem c_Y_isStretch {mv nv : Int32} {fa fb ft fo : Nat → Int32} {i j x : Int32} : MKi 0 y_Y_isStretch b_Y_isStretch 4 (some .boolean) [.int i, .int j, .int x] (YW mv nv fa fb ft fo) (fun r (_ : Unit) => sw_is (¬ sw_bs i j x) r) (fun (_ : Unit) => YW mv nv fa fb ft fo) := by
  refine ok_z (own := R_Y) (by decide) rfl (fun _ => Nat.le_of_ble_eq_true rfl) ?_
  intro l dC dI q cA p e s mi args below meth c A ls Q C hret h hl
  have hx := C.1
  have hb := C.2.1
  have hl : lv_has ls 4 [(0, .ref (q 0)), (1, .int i), (2, .int j), (3, .int x)] := hl
  refine lv_iload_n hx hb d_Y_isStretch_0 rfl (lv_at hl 1 rfl) ?_
  refine lv_if_lt (tgt := 18) hx hb d_Y_isStretch_1 (by decide) (fun c1 => ?_) (fun c1 => ?_)
  · refine lv_iconst (v := nI 0) hx hb d_Y_isStretch_18 (by decide) ?_
    exact hret (nI 0) () _ _ _ _ d_Y_isStretch_19 (rfl) (Or.inr ⟨fun z => z (Or.inl c1), rfl⟩) h
  · refine lv_iload_n hx hb d_Y_isStretch_4 rfl (lv_at hl 1 rfl) ?_
    refine lv_iload_n hx hb d_Y_isStretch_5 rfl (lv_at hl 2 rfl) ?_
    refine lv_icmp_gt (tgt := 18) hx hb d_Y_isStretch_6 (by decide) (fun c2 => ?_) (fun c2 => ?_)
    · refine lv_iconst (v := nI 0) hx hb d_Y_isStretch_18 (by decide) ?_
      exact hret (nI 0) () _ _ _ _ d_Y_isStretch_19 (rfl) (Or.inr ⟨fun z => z (Or.inr (Or.inl c2)), rfl⟩) h
    · refine lv_iload_n hx hb d_Y_isStretch_9 rfl (lv_at hl 2 rfl) ?_
      refine lv_iload_n hx hb d_Y_isStretch_10 rfl (lv_at hl 3 rfl) ?_
      refine lv_icmp_gt (tgt := 18) hx hb d_Y_isStretch_11 (by decide) (fun c3 => ?_) (fun c3 => ?_)
      · refine lv_iconst (v := nI 0) hx hb d_Y_isStretch_18 (by decide) ?_
        exact hret (nI 0) () _ _ _ _ d_Y_isStretch_19 (rfl) (Or.inr ⟨fun z => z (Or.inr (Or.inr c3)), rfl⟩) h
      · refine lv_iconst (v := nI 1) hx hb d_Y_isStretch_14 (by decide) ?_
        refine lv_goto (tgt := 19) hx hb d_Y_isStretch_15 (by decide) ?_
        exact hret (nI 1) () _ _ _ _ d_Y_isStretch_19 (rfl) (Or.inl ⟨fun z => z.elim c1 (fun z => z.elim c2 c3), rfl⟩) h

set_option maxHeartbeats 4000000 in
set_option maxRecDepth 100000 in
theorem c_Y_least {mv nv : Int32} {fa fb ft fo : Nat → Int32} {a b : Nat} (ha : a < 2 ^ 31) (hb2 : b < 2 ^ 31) : MKi 0 y_Y_least b_Y_least 3 (some .int) [.int (nI a), .int (nI b)] (YW mv nv fa fb ft fo) (fun r (_ : Unit) => r = nI (min a b)) (fun (_ : Unit) => YW mv nv fa fb ft fo) := by
  refine ok_i (own := R_Y) (by decide) rfl (fun _ => Nat.le_of_ble_eq_true rfl) ?_
  intro l dC dI q cA p e s mi args below meth c A ls Q C hret h hl
  have hx := C.1
  have hb := C.2.1
  have hl : lv_has ls 3 [(0, .ref (q 0)), (1, .int (nI a)), (2, .int (nI b))] := hl
  refine lv_iload_n hx hb d_Y_least_0 rfl (lv_at hl 1 rfl) ?_
  refine lv_iload_n hx hb d_Y_least_1 rfl (lv_at hl 2 rfl) ?_
  refine nb_ge (tgt := 9) hx hb (by omega) (by omega) d_Y_least_2 (by decide) (fun c1 => ?_) (fun c1 => ?_)
  · refine lv_iload_n hx hb d_Y_least_9 rfl (lv_at hl 2 rfl) ?_
    exact hret (nI b) () _ _ _ _ d_Y_least_10 (by rw [Nat.min_eq_right c1]) h
  · refine lv_iload_n hx hb d_Y_least_5 rfl (lv_at hl 1 rfl) ?_
    refine lv_goto (tgt := 10) hx hb d_Y_least_6 (by decide) ?_
    exact hret (nI a) () _ _ _ _ d_Y_least_10 (by rw [Nat.min_eq_left (Nat.le_of_lt c1)]) h

set_option maxHeartbeats 4000000 in
set_option maxRecDepth 100000 in
theorem c_Y_growA {fa fb ft fo : Nat → Int32} {m n : Nat} {x : Int32} (hm : m ≤ 10) (hn : n ≤ 14) : MKi 1 y_Y_growA b_Y_growA 2 (some .int) [.int x] (YW (nI m) (nI n) fa fb ft fo) (fun r (u : sw_T) => (r, u) = se_growA (m, n, fa, fb) x) (fun u : sw_T => YW (nI u.1) (nI u.2.1) u.2.2.1 u.2.2.2 ft fo) := by
  refine ok_i (own := R_Y) (by decide) rfl (fun _ => Nat.le_of_ble_eq_true rfl) ?_
  intro l dC dI q cA p e s mi args below meth c A ls Q C hret h hl
  have hx := C.1
  have hb := C.2.1
  have hl : lv_has ls 2 [(0, .ref (q 0)), (1, .int x)] := hl
  refine lv_aload_n hx hb d_Y_growA_0 rfl (lv_at hl 0 rfl) ?_
  refine lv_iload_n hx hb d_Y_growA_1 rfl (lv_at hl 1 rfl) ?_
  refine ck_i (n := 1) (ci := 1) (rest := []) C h (c_Y_isLetter (x := x)) rfl rfl (tb_goodIn tl_Y_22 ti_Y_isLetter ts_Y_isLetter tn_Y tc_Y_isLetter) (by decide +kernel) ⟨Nat.le_of_ble_eq_true rfl, Nat.le_of_ble_eq_true rfl⟩ rfl hl rfl (Nat.le_of_ble_eq_true rfl) ⟨Nat.zero_le _, Nat.zero_le _⟩ d_Y_growA_2 (fun r u H locs hp h => ?_)
  refine lv_if_ne (tgt := 10) hx hb d_Y_growA_5 (by decide) (fun c1 => ?_) (fun c1 => ?_)
  · have hg := sw_is_t hp c1
    refine lv_aload_n hx hb d_Y_growA_10 rfl (lv_at hl 0 rfl) ?_
    refine gY_m C h d_Y_growA_11 ?_
    refine lv_bipush (v := nI 10) hx hb d_Y_growA_14 (by decide) ?_
    refine nb_ne (tgt := 22) hx hb (by omega) (by omega) d_Y_growA_16 (by decide) (fun c2 => ?_) (fun c2 => ?_)
    · refine lv_aload_n hx hb d_Y_growA_22 rfl (lv_at hl 0 rfl) ?_
      refine gY_a C h d_Y_growA_23 ?_
      refine lv_aload_n hx hb d_Y_growA_26 rfl (lv_at hl 0 rfl) ?_
      refine gY_m C h d_Y_growA_27 ?_
      refine lv_iload_n hx hb d_Y_growA_30 rfl (lv_at hl 1 rfl) ?_
      refine sY_a C h (m) (by omega) d_Y_growA_31 (fun H locs h => ?_)
      refine lv_aload_n hx hb d_Y_growA_32 rfl (lv_at hl 0 rfl) ?_
      refine lv_dup hx hb d_Y_growA_33 rfl ?_
      refine gY_m C h d_Y_growA_34 ?_
      refine lv_iconst (v := nI 1) hx hb d_Y_growA_37 (by decide) ?_
      refine ni_add hx hb d_Y_growA_38 ?_
      refine pY_m C h d_Y_growA_39 (fun H locs h => ?_)
      refine lv_aload_n hx hb d_Y_growA_42 rfl (lv_at hl 0 rfl) ?_
      refine gY_m C h d_Y_growA_43 ?_
      exact hret (nI (m + 1)) (m + 1, n, upd fa m x, fb) _ _ _ _ d_Y_growA_46 (by unfold se_growA; rw [if_neg hg, if_neg c2]) h
    · refine lv_bipush (v := (-2)) hx hb d_Y_growA_19 (by decide) ?_
      exact hret (-2) (m, n, fa, fb) _ _ _ _ d_Y_growA_21 (by unfold se_growA; rw [if_neg hg, if_pos c2]) h
  · refine lv_iconst (v := (-1)) hx hb d_Y_growA_8 (by decide) ?_
    exact hret (-1) (m, n, fa, fb) _ _ _ _ d_Y_growA_9 (by unfold se_growA; rw [if_pos (Classical.not_not.mp (sw_is_f hp c1))]) h

set_option maxHeartbeats 4000000 in
set_option maxRecDepth 100000 in
theorem c_Y_growB {fa fb ft fo : Nat → Int32} {m n : Nat} {x : Int32} (hm : m ≤ 10) (hn : n ≤ 14) : MKi 1 y_Y_growB b_Y_growB 2 (some .int) [.int x] (YW (nI m) (nI n) fa fb ft fo) (fun r (u : sw_T) => (r, u) = se_growB (m, n, fa, fb) x) (fun u : sw_T => YW (nI u.1) (nI u.2.1) u.2.2.1 u.2.2.2 ft fo) := by
  refine ok_i (own := R_Y) (by decide) rfl (fun _ => Nat.le_of_ble_eq_true rfl) ?_
  intro l dC dI q cA p e s mi args below meth c A ls Q C hret h hl
  have hx := C.1
  have hb := C.2.1
  have hl : lv_has ls 2 [(0, .ref (q 0)), (1, .int x)] := hl
  refine lv_aload_n hx hb d_Y_growB_0 rfl (lv_at hl 0 rfl) ?_
  refine lv_iload_n hx hb d_Y_growB_1 rfl (lv_at hl 1 rfl) ?_
  refine ck_i (n := 1) (ci := 1) (rest := []) C h (c_Y_isLetter (x := x)) rfl rfl (tb_goodIn tl_Y_22 ti_Y_isLetter ts_Y_isLetter tn_Y tc_Y_isLetter) (by decide +kernel) ⟨Nat.le_of_ble_eq_true rfl, Nat.le_of_ble_eq_true rfl⟩ rfl hl rfl (Nat.le_of_ble_eq_true rfl) ⟨Nat.zero_le _, Nat.zero_le _⟩ d_Y_growB_2 (fun r u H locs hp h => ?_)
  refine lv_if_ne (tgt := 10) hx hb d_Y_growB_5 (by decide) (fun c1 => ?_) (fun c1 => ?_)
  · have hg := sw_is_t hp c1
    refine lv_aload_n hx hb d_Y_growB_10 rfl (lv_at hl 0 rfl) ?_
    refine gY_n C h d_Y_growB_11 ?_
    refine lv_bipush (v := nI 14) hx hb d_Y_growB_14 (by decide) ?_
    refine nb_ne (tgt := 22) hx hb (by omega) (by omega) d_Y_growB_16 (by decide) (fun c2 => ?_) (fun c2 => ?_)
    · refine lv_aload_n hx hb d_Y_growB_22 rfl (lv_at hl 0 rfl) ?_
      refine gY_b C h d_Y_growB_23 ?_
      refine lv_aload_n hx hb d_Y_growB_26 rfl (lv_at hl 0 rfl) ?_
      refine gY_n C h d_Y_growB_27 ?_
      refine lv_iload_n hx hb d_Y_growB_30 rfl (lv_at hl 1 rfl) ?_
      refine sY_b C h (n) (by omega) d_Y_growB_31 (fun H locs h => ?_)
      refine lv_aload_n hx hb d_Y_growB_32 rfl (lv_at hl 0 rfl) ?_
      refine lv_dup hx hb d_Y_growB_33 rfl ?_
      refine gY_n C h d_Y_growB_34 ?_
      refine lv_iconst (v := nI 1) hx hb d_Y_growB_37 (by decide) ?_
      refine ni_add hx hb d_Y_growB_38 ?_
      refine pY_n C h d_Y_growB_39 (fun H locs h => ?_)
      refine lv_aload_n hx hb d_Y_growB_42 rfl (lv_at hl 0 rfl) ?_
      refine gY_n C h d_Y_growB_43 ?_
      exact hret (nI (n + 1)) (m, n + 1, fa, upd fb n x) _ _ _ _ d_Y_growB_46 (by unfold se_growB; rw [if_neg hg, if_neg c2]) h
    · refine lv_bipush (v := (-2)) hx hb d_Y_growB_19 (by decide) ?_
      exact hret (-2) (m, n, fa, fb) _ _ _ _ d_Y_growB_21 (by unfold se_growB; rw [if_neg hg, if_pos c2]) h
  · refine lv_iconst (v := (-1)) hx hb d_Y_growB_8 (by decide) ?_
    exact hret (-1) (m, n, fa, fb) _ _ _ _ d_Y_growB_9 (by unfold se_growB; rw [if_pos (Classical.not_not.mp (sw_is_f hp c1))]) h

set_option maxHeartbeats 4000000 in
set_option maxRecDepth 100000 in
theorem c_Y_putA {fa fb ft fo : Nat → Int32} {m n : Nat} {i x : Int32} (hm : m ≤ 10) (hn : n ≤ 14) : MKi 1 y_Y_putA b_Y_putA 4 (some .int) [.int i, .int x] (YW (nI m) (nI n) fa fb ft fo) (fun r (u : sw_T) => (r, u) = se_putA (m, n, fa, fb) i x) (fun u : sw_T => YW (nI u.1) (nI u.2.1) u.2.2.1 u.2.2.2 ft fo) := by
  refine ok_i (own := R_Y) (by decide) rfl (fun _ => Nat.le_of_ble_eq_true rfl) ?_
  intro l dC dI q cA p e s mi args below meth c A ls Q C hret h hl
  have hx := C.1
  have hb := C.2.1
  have hl : lv_has ls 4 [(0, .ref (q 0)), (1, .int i), (2, .int x)] := hl
  refine lv_iload_n hx hb d_Y_putA_0 rfl (lv_at hl 1 rfl) ?_
  refine lv_if_lt (tgt := 20) hx hb d_Y_putA_1 (by decide) (fun c1 => ?_) (fun c1 => ?_)
  · refine lv_iconst (v := (-1)) hx hb d_Y_putA_20 (by decide) ?_
    exact hret (-1) (m, n, fa, fb) _ _ _ _ d_Y_putA_21 (by unfold se_putA; rw [if_pos (Or.inl c1)]) h
  · refine lv_iload_n hx hb d_Y_putA_4 rfl (lv_at hl 1 rfl) ?_
    refine lv_aload_n hx hb d_Y_putA_5 rfl (lv_at hl 0 rfl) ?_
    refine gY_m C h d_Y_putA_6 ?_
    refine lv_icmp_ge (tgt := 20) hx hb d_Y_putA_9 (by decide) (fun c2 => ?_) (fun c2 => ?_)
    · refine lv_iconst (v := (-1)) hx hb d_Y_putA_20 (by decide) ?_
      exact hret (-1) (m, n, fa, fb) _ _ _ _ d_Y_putA_21 (by unfold se_putA; rw [if_pos (Or.inr (Or.inl c2))]) h
    · refine lv_aload_n hx hb d_Y_putA_12 rfl (lv_at hl 0 rfl) ?_
      refine lv_iload_n hx hb d_Y_putA_13 rfl (lv_at hl 2 rfl) ?_
      refine ck_i (n := 1) (ci := 1) (rest := []) C h (c_Y_isLetter (x := x)) rfl rfl (tb_goodIn tl_Y_22 ti_Y_isLetter ts_Y_isLetter tn_Y tc_Y_isLetter) (by decide +kernel) ⟨Nat.le_of_ble_eq_true rfl, Nat.le_of_ble_eq_true rfl⟩ rfl hl rfl (Nat.le_of_ble_eq_true rfl) ⟨Nat.zero_le _, Nat.zero_le _⟩ d_Y_putA_14 (fun r u H locs hp h => ?_)
      refine lv_if_ne (tgt := 22) hx hb d_Y_putA_17 (by decide) (fun c3 => ?_) (fun c3 => ?_)
      · have hg := sw_is_t hp c3
        obtain ⟨j, hj, rfl⟩ := nI_of c1
        have hjm : j < m := by rw [nI_leI (by omega) hj] at c2; omega
        refine lv_aload_n hx hb d_Y_putA_22 rfl (lv_at hl 0 rfl) ?_
        refine gY_a C h d_Y_putA_23 ?_
        refine lv_iload_n hx hb d_Y_putA_26 rfl (lv_at hl 1 rfl) ?_
        refine lY_a C h (j) (by omega) d_Y_putA_27 ?_
        refine lv_istore_n (lv' := [(3, .int (fa j)), (0, .ref (q 0)), (1, .int (nI j)), (2, .int x)]) hx hb d_Y_putA_28 rfl hl (by decide) rfl (fun ls hl => ?_)
        refine lv_aload_n hx hb d_Y_putA_29 rfl (lv_at hl 1 rfl) ?_
        refine gY_a C h d_Y_putA_30 ?_
        refine lv_iload_n hx hb d_Y_putA_33 rfl (lv_at hl 2 rfl) ?_
        refine lv_iload_n hx hb d_Y_putA_34 rfl (lv_at hl 3 rfl) ?_
        refine sY_a C h (j) (by omega) d_Y_putA_35 (fun H locs h => ?_)
        refine lv_iload_n hx hb d_Y_putA_36 rfl (lv_at hl 0 rfl) ?_
        exact hret (fa j) (m, n, upd fa j x, fb) _ _ _ _ d_Y_putA_37 (by unfold se_putA; rw [if_neg (fun z => z.elim c1 (fun z => z.elim c2 hg)), iN_n hj]) h
      · refine lv_iconst (v := (-1)) hx hb d_Y_putA_20 (by decide) ?_
        exact hret (-1) (m, n, fa, fb) _ _ _ _ d_Y_putA_21 (by unfold se_putA; rw [if_pos (Or.inr (Or.inr (Classical.not_not.mp (sw_is_f hp c3))))]) h

set_option maxHeartbeats 4000000 in
set_option maxRecDepth 100000 in
theorem c_Y_shiftB {fa fb ft fo : Nat → Int32} {m n : Nat} (hm : m ≤ 10) (hn : n ≤ 14) : MKi 1 y_Y_shiftB b_Y_shiftB 3 (some .int) [] (YW (nI m) (nI n) fa fb ft fo) (fun r (u : sw_T) => (r, u) = se_shiftB (m, n, fa, fb)) (fun u : sw_T => YW (nI u.1) (nI u.2.1) u.2.2.1 u.2.2.2 ft fo) := by
  refine ok_i (own := R_Y) (by decide) rfl (fun _ => Nat.le_of_ble_eq_true rfl) ?_
  intro l dC dI q cA p e s mi args below meth c A ls Q C hret h hl
  have hx := C.1
  have hb := C.2.1
  have hl : lv_has ls 3 [(0, .ref (q 0))] := hl
  refine lv_aload_n hx hb d_Y_shiftB_0 rfl (lv_at hl 0 rfl) ?_
  refine gY_n C h d_Y_shiftB_1 ?_
  refine nz_ne (tgt := 10) hx hb (by omega) d_Y_shiftB_4 (by decide) (fun c1 => ?_) (fun c1 => ?_)
  · refine lv_aload_n hx hb d_Y_shiftB_10 rfl (lv_at hl 0 rfl) ?_
    refine gY_b C h d_Y_shiftB_11 ?_
    refine lv_iconst (v := nI 0) hx hb d_Y_shiftB_14 (by decide) ?_
    refine lY_b C h (0) (by omega) d_Y_shiftB_15 ?_
    refine lv_istore_n (lv' := [(1, .int (fb 0)), (0, .ref (q 0))]) hx hb d_Y_shiftB_16 rfl hl (by decide) rfl (fun ls hl => ?_)
    refine lv_iconst (v := nI 1) hx hb d_Y_shiftB_17 (by decide) ?_
    refine lv_istore_n (lv' := [(2, .int (nI 1)), (1, .int (fb 0)), (0, .ref (q 0))]) hx hb d_Y_shiftB_18 rfl hl (by decide) rfl (fun ls hl => ?_)
    have loop : ∀ (fuel : Nat) (j : Nat), j ≤ n - 1 → n - 1 + 1 ≤ j + fuel → ∀ (H : Heap) (locs : List Loc) (ls : Array Slot), WK s dC dI A (YW (nI m) (nI n) fa (sw_sh fb j) ft fo q cA) H locs → lv_has ls 3 [(0, .ref (q 0)), (1, .int (fb 0)), (2, .int (nI (j + 1)))] → W p l e (rm_L 1) s mi args below meth c H locs 0 0 Q (F0 mi 19 ls []) := by
      intro fuel
      induction fuel with
      | zero => intro j hle hfu; exact absurd hfu (by omega)
      | succ fuel ih_loop =>
        intro j hle hfu H locs ls h hl
        refine lv_iload_n hx hb d_Y_shiftB_19 rfl (lv_at hl 2 rfl) ?_
        refine lv_aload_n hx hb d_Y_shiftB_20 rfl (lv_at hl 0 rfl) ?_
        refine gY_n C h d_Y_shiftB_21 ?_
        refine nb_ge (tgt := 47) hx hb (by omega) (by omega) d_Y_shiftB_24 (by decide) (fun cj => ?_) (fun cj => ?_)
        · obtain rfl : n - 1 = j := by omega
          refine lv_aload_n hx hb d_Y_shiftB_47 rfl (lv_at hl 0 rfl) ?_
          refine lv_dup hx hb d_Y_shiftB_48 rfl ?_
          refine gY_n C h d_Y_shiftB_49 ?_
          refine lv_iconst (v := nI 1) hx hb d_Y_shiftB_52 (by decide) ?_
          refine ni_sub hx hb (by omega) d_Y_shiftB_53 ?_
          refine pY_n C h d_Y_shiftB_54 (fun H locs h => ?_)
          refine lv_iload_n hx hb d_Y_shiftB_57 rfl (lv_at hl 1 rfl) ?_
          exact hret (fb 0) (m, n - 1, fa, sw_sh fb (n - 1)) _ _ _ _ d_Y_shiftB_58 (by unfold se_shiftB; rw [if_neg c1]) h
        · refine lv_aload_n hx hb d_Y_shiftB_27 rfl (lv_at hl 0 rfl) ?_
          refine gY_b C h d_Y_shiftB_28 ?_
          refine lv_iload_n hx hb d_Y_shiftB_31 rfl (lv_at hl 2 rfl) ?_
          refine lv_iconst (v := nI 1) hx hb d_Y_shiftB_32 (by decide) ?_
          refine ni_sub hx hb (by omega) d_Y_shiftB_33 ?_
          refine ni_top (y := nI j) (by rw [show j + 1 - 1 = j by omega]) ?_
          refine lv_aload_n hx hb d_Y_shiftB_34 rfl (lv_at hl 0 rfl) ?_
          refine gY_b C h d_Y_shiftB_35 ?_
          refine lv_iload_n hx hb d_Y_shiftB_38 rfl (lv_at hl 2 rfl) ?_
          refine lY_b C h (j + 1) (by omega) d_Y_shiftB_39 ?_
          refine sY_b C h (j) (by omega) d_Y_shiftB_40 (fun H locs h => ?_)
          rw [sw_sh_s] at h
          refine ni_iinc (k := 2) (lv' := [(2, .int (nI (j + 1 + 1))), (0, .ref (q 0)), (1, .int (fb 0))]) hx hb d_Y_shiftB_41 hl rfl (by decide) rfl (fun ls hl => ?_)
          refine lv_goto (tgt := 19) hx hb d_Y_shiftB_44 (by decide) ?_
          exact ih_loop (j + 1) (by omega) (by omega) _ _ _ h (lv_sub hl [1, 2, 0] rfl)
    rw [← sw_sh_0 fb] at h
    exact loop n 0 (by omega) (by omega) _ _ _ h (lv_sub hl [2, 1, 0] rfl)
  · refine lv_bipush (v := (-4)) hx hb d_Y_shiftB_7 (by decide) ?_
    exact hret (-4) (m, n, fa, fb) _ _ _ _ d_Y_shiftB_9 (by unfold se_shiftB; rw [if_pos c1]) h

set_option maxHeartbeats 4000000 in
set_option maxRecDepth 100000 in
theorem c_Y_clear {fa fb ft fo : Nat → Int32} {m n : Nat} : MKv 1 y_Y_clear b_Y_clear 1 [] (YW (nI m) (nI n) fa fb ft fo) (fun u : sw_T => u = se_clear (m, n, fa, fb)) (fun u : sw_T => YW (nI u.1) (nI u.2.1) u.2.2.1 u.2.2.2 ft fo) := by
  refine ok_v (own := R_Y) (by decide) rfl (fun _ => Nat.le_of_ble_eq_true rfl) ?_
  intro l dC dI q cA p e s mi args below meth c A ls Q C hret h hl
  have hx := C.1
  have hb := C.2.1
  have hl : lv_has ls 1 [(0, .ref (q 0))] := hl
  refine lv_aload_n hx hb d_Y_clear_0 rfl (lv_at hl 0 rfl) ?_
  refine lv_iconst (v := nI 0) hx hb d_Y_clear_1 (by decide) ?_
  refine pY_m C h d_Y_clear_2 (fun H locs h => ?_)
  refine lv_aload_n hx hb d_Y_clear_5 rfl (lv_at hl 0 rfl) ?_
  refine lv_iconst (v := nI 0) hx hb d_Y_clear_6 (by decide) ?_
  refine pY_n C h d_Y_clear_7 (fun H locs h => ?_)
  exact hret (0, 0, fa, fb) _ _ _ _ d_Y_clear_10 (rfl) h

set_option maxHeartbeats 4000000 in
set_option maxRecDepth 100000 in
theorem c_Y_lengths {fa fb ft fo : Nat → Int32} {m n : Nat} : MKi 1 y_Y_lengths b_Y_lengths 1 (some .int) [] (YW (nI m) (nI n) fa fb ft fo) (fun r (_ : Unit) => r = nI (m + 16 * n)) (fun (_ : Unit) => YW (nI m) (nI n) fa fb ft fo) := by
  refine ok_i (own := R_Y) (by decide) rfl (fun _ => Nat.le_of_ble_eq_true rfl) ?_
  intro l dC dI q cA p e s mi args below meth c A ls Q C hret h hl
  have hx := C.1
  have hb := C.2.1
  have hl : lv_has ls 1 [(0, .ref (q 0))] := hl
  refine lv_aload_n hx hb d_Y_lengths_0 rfl (lv_at hl 0 rfl) ?_
  refine gY_m C h d_Y_lengths_1 ?_
  refine lv_bipush (v := nI 16) hx hb d_Y_lengths_4 (by decide) ?_
  refine lv_aload_n hx hb d_Y_lengths_6 rfl (lv_at hl 0 rfl) ?_
  refine gY_n C h d_Y_lengths_7 ?_
  refine ni_mul hx hb d_Y_lengths_10 ?_
  refine ni_add hx hb d_Y_lengths_11 ?_
  exact hret (nI (m + (16 * n))) () _ _ _ _ d_Y_lengths_12 (rfl) h
end
section
/-! THE REFERENCE, 2: its tables; printed by the walker -/
set_option maxHeartbeats 4000000 in
set_option maxRecDepth 100000 in
theorem c_Y_common {mv : Int32} {fa fb ft fo : Nat → Int32} {n : Nat} {a k t j : Nat} (hn : n ≤ 14) (hk : a + k ≤ 10) (hj : j ≤ 14) (ht : t ≤ 1000) (hjn : 0 < j → 0 < n) : MKi 0 y_Y_common b_Y_common 10 (some .int) [.int (nI a), .int (nI k), .int (nI t), .int (nI j)] (YW mv (nI n) fa fb ft fo) (fun r (_ : Nat → Int32) => r = nI (sw_d fa (fun z => fb (z % n)) a t k j)) (fun (u : Nat → Int32) => YW mv (nI n) fa fb u fo) := by
  refine ok_i (own := R_Y) (by decide) rfl (fun _ => Nat.le_of_ble_eq_true rfl) ?_
  intro l dC dI q cA p e s mi args below meth c A ls Q C hret h hl
  have hx := C.1
  have hb := C.2.1
  have hl : lv_has ls 10 [(0, .ref (q 0)), (1, .int (nI a)), (2, .int (nI k)), (3, .int (nI t)), (4, .int (nI j))] := hl
  refine lv_iconst (v := nI 0) hx hb d_Y_common_0 (by decide) ?_
  refine lv_istore (lv' := [(5, .int (nI 0)), (0, .ref (q 0)), (1, .int (nI a)), (2, .int (nI k)), (3, .int (nI t)), (4, .int (nI j))]) hx hb d_Y_common_1 hl (by decide) rfl (fun ls hl => ?_)
  have loopX : ∀ (fuel : Nat) (x : Nat) (f : Nat → Int32), x ≤ k + 1 → k + 1 + 1 ≤ x + fuel → (sw_tb (sw_d fa (fun z => fb (z % n)) a t) j x 0 f) → ∀ (H : Heap) (locs : List Loc) (ls : Array Slot), WK s dC dI A (YW mv (nI n) fa fb f fo q cA) H locs → lv_has ls 10 [(0, .ref (q 0)), (1, .int (nI a)), (2, .int (nI k)), (3, .int (nI t)), (4, .int (nI j)), (5, .int (nI x))] → W p l e (rm_L 0) s mi args below meth c H locs 0 0 Q (F0 mi 3 ls []) := by
    intro fuel
    induction fuel with
    | zero => intro x f hle hfu; exact absurd hfu (by omega)
    | succ fuel ih_loopX =>
      intro x f hle hfu htb H locs ls h hl
      refine lv_iload hx hb d_Y_common_3 (lv_at hl 5 rfl) ?_
      refine lv_iload_n hx hb d_Y_common_5 rfl (lv_at hl 2 rfl) ?_
      refine nb_gt (tgt := 160) hx hb (by omega) (by omega) d_Y_common_6 (by decide) (fun cx => ?_) (fun cx => ?_)
      · have hfin := htb k j (Nat.le_refl j) (Or.inl (by omega))
        refine lv_aload_n hx hb d_Y_common_160 rfl (lv_at hl 0 rfl) ?_
        refine gY_table C h d_Y_common_161 ?_
        refine lv_iload_n hx hb d_Y_common_164 rfl (lv_at hl 2 rfl) ?_
        refine lv_bipush (v := nI 15) hx hb d_Y_common_165 (by decide) ?_
        refine ni_mul hx hb d_Y_common_167 ?_
        refine lv_iload hx hb d_Y_common_168 (lv_at hl 4 rfl) ?_
        refine ni_add hx hb d_Y_common_170 ?_
        refine lY_table C h ((k * 15) + j) (by omega) d_Y_common_171 ?_
        exact hret (f ((k * 15) + j)) f _ _ _ _ d_Y_common_172 (hfin) h
      · refine lv_iconst (v := nI 0) hx hb d_Y_common_9 (by decide) ?_
        refine lv_istore (lv' := [(6, .int (nI 0)), (0, .ref (q 0)), (1, .int (nI a)), (2, .int (nI k)), (3, .int (nI t)), (4, .int (nI j)), (5, .int (nI x))]) hx hb d_Y_common_10 hl (by decide) rfl (fun ls hl => ?_)
        have loopY : ∀ (fuelY : Nat) (y : Nat) (f : Nat → Int32), y ≤ j + 1 → j + 1 + 1 ≤ y + fuelY → (sw_tb (sw_d fa (fun z => fb (z % n)) a t) j x y f) → ∀ (H : Heap) (locs : List Loc) (ls : Array Slot), WK s dC dI A (YW mv (nI n) fa fb f fo q cA) H locs → lv_has ls 10 [(0, .ref (q 0)), (1, .int (nI a)), (2, .int (nI k)), (3, .int (nI t)), (4, .int (nI j)), (5, .int (nI x)), (6, .int (nI y))] → W p l e (rm_L 0) s mi args below meth c H locs 0 0 Q (F0 mi 12 ls []) := by
          intro fuelY
          induction fuelY with
          | zero => intro y f hle hfu; exact absurd hfu (by omega)
          | succ fuelY ih_loopY =>
            intro y f hle hfu htb H locs ls h hl
            refine lv_iload hx hb d_Y_common_12 (lv_at hl 6 rfl) ?_
            refine lv_iload hx hb d_Y_common_14 (lv_at hl 4 rfl) ?_
            refine nb_gt (tgt := 154) hx hb (by omega) (by omega) d_Y_common_16 (by decide) (fun cy => ?_) (fun cy => ?_)
            · obtain rfl : y = j + 1 := by omega
              refine ni_iinc (k := 5) (lv' := [(5, .int (nI (x + 1))), (0, .ref (q 0)), (1, .int (nI a)), (2, .int (nI k)), (3, .int (nI t)), (4, .int (nI j)), (6, .int (nI (j + 1)))]) hx hb d_Y_common_154 hl rfl (by decide) rfl (fun ls hl => ?_)
              refine lv_goto (tgt := 3) hx hb d_Y_common_157 (by decide) ?_
              exact ih_loopX (x + 1) f (by omega) (by omega) (sw_tb_r htb) _ _ _ h (lv_sub hl [1, 2, 3, 4, 5, 0] rfl)
            · refine lv_iconst (v := nI 0) hx hb d_Y_common_19 (by decide) ?_
              refine lv_istore (lv' := [(7, .int (nI 0)), (0, .ref (q 0)), (1, .int (nI a)), (2, .int (nI k)), (3, .int (nI t)), (4, .int (nI j)), (5, .int (nI x)), (6, .int (nI y))]) hx hb d_Y_common_20 hl (by decide) rfl (fun ls hl => ?_)
              have join : ∀ (b : Nat), (b = sw_d fa (fun z => fb (z % n)) a t x y) → ∀ (H : Heap) (locs : List Loc) (ls : Array Slot), WK s dC dI A (YW mv (nI n) fa fb f fo q cA) H locs → lv_has ls 10 [(0, .ref (q 0)), (1, .int (nI a)), (2, .int (nI k)), (3, .int (nI t)), (4, .int (nI j)), (5, .int (nI x)), (6, .int (nI y)), (7, .int (nI b))] → W p l e (rm_L 0) s mi args below meth c H locs 0 0 Q (F0 mi 133 ls []) := by
                intro b hb9 H locs ls h hl
                refine lv_aload_n hx hb d_Y_common_133 rfl (lv_at hl 0 rfl) ?_
                refine gY_table C h d_Y_common_134 ?_
                refine lv_iload hx hb d_Y_common_137 (lv_at hl 5 rfl) ?_
                refine lv_bipush (v := nI 15) hx hb d_Y_common_139 (by decide) ?_
                refine ni_mul hx hb d_Y_common_141 ?_
                refine lv_iload hx hb d_Y_common_142 (lv_at hl 6 rfl) ?_
                refine ni_add hx hb d_Y_common_144 ?_
                refine lv_iload hx hb d_Y_common_145 (lv_at hl 7 rfl) ?_
                refine sY_table C h ((x * 15) + y) (by omega) d_Y_common_147 (fun H locs h => ?_)
                refine ni_iinc (k := 6) (lv' := [(6, .int (nI (y + 1))), (0, .ref (q 0)), (1, .int (nI a)), (2, .int (nI k)), (3, .int (nI t)), (4, .int (nI j)), (5, .int (nI x)), (7, .int (nI b))]) hx hb d_Y_common_148 hl rfl (by decide) rfl (fun ls hl => ?_)
                refine lv_goto (tgt := 12) hx hb d_Y_common_151 (by decide) ?_
                exact ih_loopY (y + 1) _ (by omega) (by omega) (sw_tb_s htb (by omega) (by omega) hb9) _ _ _ h (lv_sub hl [1, 2, 3, 4, 5, 6, 0] rfl)
              refine lv_iload hx hb d_Y_common_22 (lv_at hl 6 rfl) ?_
              refine nz_le (tgt := 133) hx hb (by omega) d_Y_common_24 (by decide) (fun cx0 => ?_) (fun cx0 => ?_)
              · subst cx0
                exact join 0 (rfl) _ _ _ h (lv_sub hl [1, 2, 3, 4, 5, 6, 7, 0] rfl)
              · refine lv_iload hx hb d_Y_common_27 (lv_at hl 7 rfl) ?_
                refine nz_le (tgt := 133) hx hb (by omega) d_Y_common_29 (by decide) (fun cy0 => ?_) (fun cy0 => ?_)
                · subst cy0
                  exact join 0 ((sw_d_x0 _ _ _ _ _).symm) _ _ _ h (lv_sub hl [1, 2, 3, 4, 5, 6, 7, 0] rfl)
                · obtain ⟨x, rfl⟩ : ∃ z, x = z + 1 := ⟨x - 1, by omega⟩
                  obtain ⟨y, rfl⟩ : ∃ z, y = z + 1 := ⟨y - 1, by omega⟩
                  have hd1 := sw_d_le fa (fun z => fb (z % n)) a t x (y + 1)
                  have hd2 := sw_d_le fa (fun z => fb (z % n)) a t (x + 1) y
                  have hd3 := sw_d_le fa (fun z => fb (z % n)) a t x y
                  refine lv_aload_n hx hb d_Y_common_32 rfl (lv_at hl 1 rfl) ?_
                  refine gY_table C h d_Y_common_33 ?_
                  refine lv_iload hx hb d_Y_common_36 (lv_at hl 6 rfl) ?_
                  refine lv_iconst (v := nI 1) hx hb d_Y_common_38 (by decide) ?_
                  refine ni_sub hx hb (by omega) d_Y_common_39 ?_
                  refine lv_bipush (v := nI 15) hx hb d_Y_common_40 (by decide) ?_
                  refine ni_mul hx hb d_Y_common_42 ?_
                  refine lv_iload hx hb d_Y_common_43 (lv_at hl 7 rfl) ?_
                  refine ni_add hx hb d_Y_common_45 ?_
                  refine lY_table C h ((((x + 1) - 1) * 15) + (y + 1)) (by omega) d_Y_common_46 ?_
                  refine ni_top (y := nI (sw_d fa (fun z => fb (z % n)) a t x (y + 1))) (by rw [show (x + 1 - 1) * 15 + (y + 1) = x * 15 + (y + 1) by omega]; exact htb x (y + 1) (by omega) (by omega)) ?_
                  refine lv_istore (lv' := [(8, .int (nI (sw_d fa (fun z => fb (z % n)) a t x (y + 1)))), (7, .int (nI 0)), (0, .ref (q 0)), (1, .int (nI a)), (2, .int (nI k)), (3, .int (nI t)), (4, .int (nI j)), (5, .int (nI (x + 1))), (6, .int (nI (y + 1)))]) hx hb d_Y_common_47 hl (by decide) rfl (fun ls hl => ?_)
                  refine lv_aload_n hx hb d_Y_common_49 rfl (lv_at hl 2 rfl) ?_
                  refine gY_table C h d_Y_common_50 ?_
                  refine lv_iload hx hb d_Y_common_53 (lv_at hl 7 rfl) ?_
                  refine lv_bipush (v := nI 15) hx hb d_Y_common_55 (by decide) ?_
                  refine ni_mul hx hb d_Y_common_57 ?_
                  refine lv_iload hx hb d_Y_common_58 (lv_at hl 8 rfl) ?_
                  refine ni_add hx hb d_Y_common_60 ?_
                  refine lv_iconst (v := nI 1) hx hb d_Y_common_61 (by decide) ?_
                  refine ni_sub hx hb (by omega) d_Y_common_62 ?_
                  refine lY_table C h ((((x + 1) * 15) + (y + 1)) - 1) (by omega) d_Y_common_63 ?_
                  refine ni_top (y := nI (sw_d fa (fun z => fb (z % n)) a t (x + 1) y)) (by rw [show (x + 1) * 15 + (y + 1) - 1 = (x + 1) * 15 + y by omega]; exact htb (x + 1) y (by omega) (by omega)) ?_
                  refine lv_istore (lv' := [(9, .int (nI (sw_d fa (fun z => fb (z % n)) a t (x + 1) y))), (8, .int (nI (sw_d fa (fun z => fb (z % n)) a t x (y + 1)))), (7, .int (nI 0)), (0, .ref (q 0)), (1, .int (nI a)), (2, .int (nI k)), (3, .int (nI t)), (4, .int (nI j)), (5, .int (nI (x + 1))), (6, .int (nI (y + 1)))]) hx hb d_Y_common_64 hl (by decide) rfl (fun ls hl => ?_)
                  refine lv_iload hx hb d_Y_common_66 (lv_at hl 1 rfl) ?_
                  refine lv_iload hx hb d_Y_common_68 (lv_at hl 0 rfl) ?_
                  refine nb_le (tgt := 78) hx hb (by omega) (by omega) d_Y_common_70 (by decide) (fun cm => ?_) (fun cm => ?_)
                  · refine lv_iload hx hb d_Y_common_78 (lv_at hl 0 rfl) ?_
                    refine lv_istore (lv' := [(7, .int (nI (sw_d fa (fun z => fb (z % n)) a t (x + 1) y))), (9, .int (nI (sw_d fa (fun z => fb (z % n)) a t (x + 1) y))), (8, .int (nI (sw_d fa (fun z => fb (z % n)) a t x (y + 1)))), (0, .ref (q 0)), (1, .int (nI a)), (2, .int (nI k)), (3, .int (nI t)), (4, .int (nI j)), (5, .int (nI (x + 1))), (6, .int (nI (y + 1)))]) hx hb d_Y_common_80 hl (by decide) rfl (fun ls hl => ?_)
                    refine lv_aload_n hx hb d_Y_common_82 rfl (lv_at hl 3 rfl) ?_
                    refine gY_a C h d_Y_common_83 ?_
                    refine lv_iload_n hx hb d_Y_common_86 rfl (lv_at hl 4 rfl) ?_
                    refine lv_iload hx hb d_Y_common_87 (lv_at hl 8 rfl) ?_
                    refine ni_add hx hb d_Y_common_89 ?_
                    refine lv_iconst (v := nI 1) hx hb d_Y_common_90 (by decide) ?_
                    refine ni_sub hx hb (by omega) d_Y_common_91 ?_
                    refine lY_a C h ((a + (x + 1)) - 1) (by omega) d_Y_common_92 ?_
                    refine ni_top (y := fa (a + x)) (by rw [show a + (x + 1) - 1 = a + x by omega]) ?_
                    refine lv_aload_n hx hb d_Y_common_93 rfl (lv_at hl 3 rfl) ?_
                    refine gY_b C h d_Y_common_94 ?_
                    refine lv_iload_n hx hb d_Y_common_97 rfl (lv_at hl 6 rfl) ?_
                    refine lv_iload hx hb d_Y_common_98 (lv_at hl 9 rfl) ?_
                    refine ni_add hx hb d_Y_common_100 ?_
                    refine lv_iconst (v := nI 1) hx hb d_Y_common_101 (by decide) ?_
                    refine ni_sub hx hb (by omega) d_Y_common_102 ?_
                    refine lv_aload_n hx hb d_Y_common_103 rfl (lv_at hl 3 rfl) ?_
                    refine gY_n C h d_Y_common_104 ?_
                    refine ni_rem hx hb (by omega) (by omega) (by omega) d_Y_common_107 ?_
                    refine lY_b C h (((t + (y + 1)) - 1) % n) (Nat.lt_of_lt_of_le (Nat.mod_lt _ (by omega)) hn) d_Y_common_108 ?_
                    refine ni_top (y := fb ((t + y) % n)) (by rw [show t + (y + 1) - 1 = t + y by omega]) ?_
                    refine lv_icmp_ne (tgt := 133) hx hb d_Y_common_109 (by decide) (fun ce => ?_) (fun ce => ?_)
                    · exact join (sw_d fa (fun z => fb (z % n)) a t (x + 1) y) (by rw [← sw_d_ne (lb := (fun z => fb (z % n))) ce]; omega) _ _ _ h (lv_sub hl [3, 4, 5, 6, 7, 8, 9, 0] rfl)
                    · refine lv_aload_n hx hb d_Y_common_112 rfl (lv_at hl 3 rfl) ?_
                      refine gY_table C h d_Y_common_113 ?_
                      refine lv_iload hx hb d_Y_common_116 (lv_at hl 8 rfl) ?_
                      refine lv_iconst (v := nI 1) hx hb d_Y_common_118 (by decide) ?_
                      refine ni_sub hx hb (by omega) d_Y_common_119 ?_
                      refine lv_bipush (v := nI 15) hx hb d_Y_common_120 (by decide) ?_
                      refine ni_mul hx hb d_Y_common_122 ?_
                      refine lv_iload hx hb d_Y_common_123 (lv_at hl 9 rfl) ?_
                      refine ni_add hx hb d_Y_common_125 ?_
                      refine lv_iconst (v := nI 1) hx hb d_Y_common_126 (by decide) ?_
                      refine ni_sub hx hb (by omega) d_Y_common_127 ?_
                      refine lY_table C h (((((x + 1) - 1) * 15) + (y + 1)) - 1) (by omega) d_Y_common_128 ?_
                      refine ni_top (y := nI (sw_d fa (fun z => fb (z % n)) a t x y)) (by rw [show (x + 1 - 1) * 15 + (y + 1) - 1 = x * 15 + y by omega]; exact htb x y (by omega) (by omega)) ?_
                      refine lv_iconst (v := nI 1) hx hb d_Y_common_129 (by decide) ?_
                      refine ni_add hx hb d_Y_common_130 ?_
                      refine lv_istore (lv' := [(7, .int (nI ((sw_d fa (fun z => fb (z % n)) a t x y) + 1))), (9, .int (nI (sw_d fa (fun z => fb (z % n)) a t (x + 1) y))), (8, .int (nI (sw_d fa (fun z => fb (z % n)) a t x (y + 1)))), (0, .ref (q 0)), (1, .int (nI a)), (2, .int (nI k)), (3, .int (nI t)), (4, .int (nI j)), (5, .int (nI (x + 1))), (6, .int (nI (y + 1)))]) hx hb d_Y_common_131 hl (by decide) rfl (fun ls hl => ?_)
                      exact join (sw_d fa (fun z => fb (z % n)) a t x y + 1) (sw_d_eq (lb := (fun z => fb (z % n))) ce) _ _ _ h (lv_sub hl [3, 4, 5, 6, 7, 8, 9, 0] rfl)
                  · refine lv_iload hx hb d_Y_common_73 (lv_at hl 1 rfl) ?_
                    refine lv_goto (tgt := 80) hx hb d_Y_common_75 (by decide) ?_
                    refine lv_istore (lv' := [(7, .int (nI (sw_d fa (fun z => fb (z % n)) a t x (y + 1)))), (9, .int (nI (sw_d fa (fun z => fb (z % n)) a t (x + 1) y))), (8, .int (nI (sw_d fa (fun z => fb (z % n)) a t x (y + 1)))), (0, .ref (q 0)), (1, .int (nI a)), (2, .int (nI k)), (3, .int (nI t)), (4, .int (nI j)), (5, .int (nI (x + 1))), (6, .int (nI (y + 1)))]) hx hb d_Y_common_80 hl (by decide) rfl (fun ls hl => ?_)
                    refine lv_aload_n hx hb d_Y_common_82 rfl (lv_at hl 3 rfl) ?_
                    refine gY_a C h d_Y_common_83 ?_
                    refine lv_iload_n hx hb d_Y_common_86 rfl (lv_at hl 4 rfl) ?_
                    refine lv_iload hx hb d_Y_common_87 (lv_at hl 8 rfl) ?_
                    refine ni_add hx hb d_Y_common_89 ?_
                    refine lv_iconst (v := nI 1) hx hb d_Y_common_90 (by decide) ?_
                    refine ni_sub hx hb (by omega) d_Y_common_91 ?_
                    refine lY_a C h ((a + (x + 1)) - 1) (by omega) d_Y_common_92 ?_
                    refine ni_top (y := fa (a + x)) (by rw [show a + (x + 1) - 1 = a + x by omega]) ?_
                    refine lv_aload_n hx hb d_Y_common_93 rfl (lv_at hl 3 rfl) ?_
                    refine gY_b C h d_Y_common_94 ?_
                    refine lv_iload_n hx hb d_Y_common_97 rfl (lv_at hl 6 rfl) ?_
                    refine lv_iload hx hb d_Y_common_98 (lv_at hl 9 rfl) ?_
                    refine ni_add hx hb d_Y_common_100 ?_
                    refine lv_iconst (v := nI 1) hx hb d_Y_common_101 (by decide) ?_
                    refine ni_sub hx hb (by omega) d_Y_common_102 ?_
                    refine lv_aload_n hx hb d_Y_common_103 rfl (lv_at hl 3 rfl) ?_
                    refine gY_n C h d_Y_common_104 ?_
                    refine ni_rem hx hb (by omega) (by omega) (by omega) d_Y_common_107 ?_
                    refine lY_b C h (((t + (y + 1)) - 1) % n) (Nat.lt_of_lt_of_le (Nat.mod_lt _ (by omega)) hn) d_Y_common_108 ?_
                    refine ni_top (y := fb ((t + y) % n)) (by rw [show t + (y + 1) - 1 = t + y by omega]) ?_
                    refine lv_icmp_ne (tgt := 133) hx hb d_Y_common_109 (by decide) (fun ce => ?_) (fun ce => ?_)
                    · exact join (sw_d fa (fun z => fb (z % n)) a t x (y + 1)) (by rw [← sw_d_ne (lb := (fun z => fb (z % n))) ce]; omega) _ _ _ h (lv_sub hl [3, 4, 5, 6, 7, 8, 9, 0] rfl)
                    · refine lv_aload_n hx hb d_Y_common_112 rfl (lv_at hl 3 rfl) ?_
                      refine gY_table C h d_Y_common_113 ?_
                      refine lv_iload hx hb d_Y_common_116 (lv_at hl 8 rfl) ?_
                      refine lv_iconst (v := nI 1) hx hb d_Y_common_118 (by decide) ?_
                      refine ni_sub hx hb (by omega) d_Y_common_119 ?_
                      refine lv_bipush (v := nI 15) hx hb d_Y_common_120 (by decide) ?_
                      refine ni_mul hx hb d_Y_common_122 ?_
                      refine lv_iload hx hb d_Y_common_123 (lv_at hl 9 rfl) ?_
                      refine ni_add hx hb d_Y_common_125 ?_
                      refine lv_iconst (v := nI 1) hx hb d_Y_common_126 (by decide) ?_
                      refine ni_sub hx hb (by omega) d_Y_common_127 ?_
                      refine lY_table C h (((((x + 1) - 1) * 15) + (y + 1)) - 1) (by omega) d_Y_common_128 ?_
                      refine ni_top (y := nI (sw_d fa (fun z => fb (z % n)) a t x y)) (by rw [show (x + 1 - 1) * 15 + (y + 1) - 1 = x * 15 + y by omega]; exact htb x y (by omega) (by omega)) ?_
                      refine lv_iconst (v := nI 1) hx hb d_Y_common_129 (by decide) ?_
                      refine ni_add hx hb d_Y_common_130 ?_
                      refine lv_istore (lv' := [(7, .int (nI ((sw_d fa (fun z => fb (z % n)) a t x y) + 1))), (9, .int (nI (sw_d fa (fun z => fb (z % n)) a t (x + 1) y))), (8, .int (nI (sw_d fa (fun z => fb (z % n)) a t x (y + 1)))), (0, .ref (q 0)), (1, .int (nI a)), (2, .int (nI k)), (3, .int (nI t)), (4, .int (nI j)), (5, .int (nI (x + 1))), (6, .int (nI (y + 1)))]) hx hb d_Y_common_131 hl (by decide) rfl (fun ls hl => ?_)
                      exact join (sw_d fa (fun z => fb (z % n)) a t x y + 1) (sw_d_eq (lb := (fun z => fb (z % n))) ce) _ _ _ h (lv_sub hl [3, 4, 5, 6, 7, 8, 9, 0] rfl)
        exact loopY (j + 1 + 1) 0 f (by omega) (by omega) (htb) _ _ _ h (lv_sub hl [1, 2, 3, 4, 5, 6, 0] rfl)
  exact loopX (k + 1 + 1) 0 ft (by omega) (by omega) (sw_tb_0 _ _ _) _ _ _ h (lv_sub hl [1, 2, 3, 4, 5, 0] rfl)

set_option maxHeartbeats 4000000 in
set_option maxRecDepth 100000 in
theorem c_Y_changes {mv nv : Int32} {fa fb ft fo : Nat → Int32} {a k t j : Nat} (hk : a + k ≤ 10) (hj : t + j ≤ 14) : MKi 1 y_Y_changes b_Y_changes 10 (some .int) [.int (nI a), .int (nI k), .int (nI t), .int (nI j)] (YW mv nv fa fb ft fo) (fun r (_ : Nat → Int32) => r = nI (sw_e fa fb a t k j)) (fun (u : Nat → Int32) => YW mv nv fa fb u fo) := by
  refine ok_i (own := R_Y) (by decide) rfl (fun _ => Nat.le_of_ble_eq_true rfl) ?_
  intro l dC dI q cA p e s mi args below meth c A ls Q C hret h hl
  have hx := C.1
  have hb := C.2.1
  have hl : lv_has ls 10 [(0, .ref (q 0)), (1, .int (nI a)), (2, .int (nI k)), (3, .int (nI t)), (4, .int (nI j))] := hl
  refine lv_iconst (v := nI 0) hx hb d_Y_changes_0 (by decide) ?_
  refine lv_istore (lv' := [(5, .int (nI 0)), (0, .ref (q 0)), (1, .int (nI a)), (2, .int (nI k)), (3, .int (nI t)), (4, .int (nI j))]) hx hb d_Y_changes_1 hl (by decide) rfl (fun ls hl => ?_)
  have loopX : ∀ (fuel : Nat) (x : Nat) (f : Nat → Int32), x ≤ k + 1 → k + 1 + 1 ≤ x + fuel → (sw_tb (sw_e fa fb a t) j x 0 f) → ∀ (H : Heap) (locs : List Loc) (ls : Array Slot), WK s dC dI A (YW mv nv fa fb f fo q cA) H locs → lv_has ls 10 [(0, .ref (q 0)), (1, .int (nI a)), (2, .int (nI k)), (3, .int (nI t)), (4, .int (nI j)), (5, .int (nI x))] → W p l e (rm_L 1) s mi args below meth c H locs 0 0 Q (F0 mi 3 ls []) := by
    intro fuel
    induction fuel with
    | zero => intro x f hle hfu; exact absurd hfu (by omega)
    | succ fuel ih_loopX =>
      intro x f hle hfu htb H locs ls h hl
      refine lv_iload hx hb d_Y_changes_3 (lv_at hl 5 rfl) ?_
      refine lv_iload_n hx hb d_Y_changes_5 rfl (lv_at hl 2 rfl) ?_
      refine nb_gt (tgt := 168) hx hb (by omega) (by omega) d_Y_changes_6 (by decide) (fun cx => ?_) (fun cx => ?_)
      · have hfin := htb k j (Nat.le_refl j) (Or.inl (by omega))
        refine lv_aload_n hx hb d_Y_changes_168 rfl (lv_at hl 0 rfl) ?_
        refine gY_table C h d_Y_changes_169 ?_
        refine lv_iload_n hx hb d_Y_changes_172 rfl (lv_at hl 2 rfl) ?_
        refine lv_bipush (v := nI 15) hx hb d_Y_changes_173 (by decide) ?_
        refine ni_mul hx hb d_Y_changes_175 ?_
        refine lv_iload hx hb d_Y_changes_176 (lv_at hl 4 rfl) ?_
        refine ni_add hx hb d_Y_changes_178 ?_
        refine lY_table C h ((k * 15) + j) (by omega) d_Y_changes_179 ?_
        exact hret (f ((k * 15) + j)) f _ _ _ _ d_Y_changes_180 (hfin) h
      · refine lv_iconst (v := nI 0) hx hb d_Y_changes_9 (by decide) ?_
        refine lv_istore (lv' := [(6, .int (nI 0)), (0, .ref (q 0)), (1, .int (nI a)), (2, .int (nI k)), (3, .int (nI t)), (4, .int (nI j)), (5, .int (nI x))]) hx hb d_Y_changes_10 hl (by decide) rfl (fun ls hl => ?_)
        have loopY : ∀ (fuelY : Nat) (y : Nat) (f : Nat → Int32), y ≤ j + 1 → j + 1 + 1 ≤ y + fuelY → (sw_tb (sw_e fa fb a t) j x y f) → ∀ (H : Heap) (locs : List Loc) (ls : Array Slot), WK s dC dI A (YW mv nv fa fb f fo q cA) H locs → lv_has ls 10 [(0, .ref (q 0)), (1, .int (nI a)), (2, .int (nI k)), (3, .int (nI t)), (4, .int (nI j)), (5, .int (nI x)), (6, .int (nI y))] → W p l e (rm_L 1) s mi args below meth c H locs 0 0 Q (F0 mi 12 ls []) := by
          intro fuelY
          induction fuelY with
          | zero => intro y f hle hfu; exact absurd hfu (by omega)
          | succ fuelY ih_loopY =>
            intro y f hle hfu htb H locs ls h hl
            refine lv_iload hx hb d_Y_changes_12 (lv_at hl 6 rfl) ?_
            refine lv_iload hx hb d_Y_changes_14 (lv_at hl 4 rfl) ?_
            refine nb_gt (tgt := 162) hx hb (by omega) (by omega) d_Y_changes_16 (by decide) (fun cy => ?_) (fun cy => ?_)
            · obtain rfl : y = j + 1 := by omega
              refine ni_iinc (k := 5) (lv' := [(5, .int (nI (x + 1))), (0, .ref (q 0)), (1, .int (nI a)), (2, .int (nI k)), (3, .int (nI t)), (4, .int (nI j)), (6, .int (nI (j + 1)))]) hx hb d_Y_changes_162 hl rfl (by decide) rfl (fun ls hl => ?_)
              refine lv_goto (tgt := 3) hx hb d_Y_changes_165 (by decide) ?_
              exact ih_loopX (x + 1) f (by omega) (by omega) (sw_tb_r htb) _ _ _ h (lv_sub hl [1, 2, 3, 4, 5, 0] rfl)
            · have join : ∀ (b : Nat), (b = sw_e fa fb a t x y) → ∀ (H : Heap) (locs : List Loc) (ls : Array Slot), WK s dC dI A (YW mv nv fa fb f fo q cA) H locs → lv_has ls 10 [(0, .ref (q 0)), (1, .int (nI a)), (2, .int (nI k)), (3, .int (nI t)), (4, .int (nI j)), (5, .int (nI x)), (6, .int (nI y)), (7, .int (nI b))] → W p l e (rm_L 1) s mi args below meth c H locs 0 0 Q (F0 mi 141 ls []) := by
                intro b hb9 H locs ls h hl
                refine lv_aload_n hx hb d_Y_changes_141 rfl (lv_at hl 0 rfl) ?_
                refine gY_table C h d_Y_changes_142 ?_
                refine lv_iload hx hb d_Y_changes_145 (lv_at hl 5 rfl) ?_
                refine lv_bipush (v := nI 15) hx hb d_Y_changes_147 (by decide) ?_
                refine ni_mul hx hb d_Y_changes_149 ?_
                refine lv_iload hx hb d_Y_changes_150 (lv_at hl 6 rfl) ?_
                refine ni_add hx hb d_Y_changes_152 ?_
                refine lv_iload hx hb d_Y_changes_153 (lv_at hl 7 rfl) ?_
                refine sY_table C h ((x * 15) + y) (by omega) d_Y_changes_155 (fun H locs h => ?_)
                refine ni_iinc (k := 6) (lv' := [(6, .int (nI (y + 1))), (0, .ref (q 0)), (1, .int (nI a)), (2, .int (nI k)), (3, .int (nI t)), (4, .int (nI j)), (5, .int (nI x)), (7, .int (nI b))]) hx hb d_Y_changes_156 hl rfl (by decide) rfl (fun ls hl => ?_)
                refine lv_goto (tgt := 12) hx hb d_Y_changes_159 (by decide) ?_
                exact ih_loopY (y + 1) _ (by omega) (by omega) (sw_tb_s htb (by omega) (by omega) hb9) _ _ _ h (lv_sub hl [1, 2, 3, 4, 5, 6, 0] rfl)
              refine lv_iload hx hb d_Y_changes_19 (lv_at hl 5 rfl) ?_
              refine nz_ne (tgt := 29) hx hb (by omega) d_Y_changes_21 (by decide) (fun cx0 => ?_) (fun cx0 => ?_)
              · refine lv_iload hx hb d_Y_changes_29 (lv_at hl 5 rfl) ?_
                refine lv_istore (lv' := [(7, .int (nI x)), (0, .ref (q 0)), (1, .int (nI a)), (2, .int (nI k)), (3, .int (nI t)), (4, .int (nI j)), (5, .int (nI x)), (6, .int (nI y))]) hx hb d_Y_changes_31 hl (by decide) rfl (fun ls hl => ?_)
                refine lv_iload hx hb d_Y_changes_33 (lv_at hl 6 rfl) ?_
                refine nz_le (tgt := 141) hx hb (by omega) d_Y_changes_35 (by decide) (fun cx1 => ?_) (fun cx1 => ?_)
                · exact absurd cx1 cx0
                · refine lv_iload hx hb d_Y_changes_38 (lv_at hl 7 rfl) ?_
                  refine nz_le (tgt := 141) hx hb (by omega) d_Y_changes_40 (by decide) (fun cy0 => ?_) (fun cy0 => ?_)
                  · subst cy0
                    exact join x ((sw_e_x0 _ _ _ _ _).symm) _ _ _ h (lv_sub hl [1, 2, 3, 4, 5, 6, 7, 0] rfl)
                  · obtain ⟨x, rfl⟩ : ∃ z, x = z + 1 := ⟨x - 1, by omega⟩
                    obtain ⟨y, rfl⟩ : ∃ z, y = z + 1 := ⟨y - 1, by omega⟩
                    have hd1 := sw_e_le fa fb a t x (y + 1)
                    have hd2 := sw_e_le fa fb a t (x + 1) y
                    have hd3 := sw_e_le fa fb a t x y
                    refine lv_aload_n hx hb d_Y_changes_43 rfl (lv_at hl 1 rfl) ?_
                    refine gY_a C h d_Y_changes_44 ?_
                    refine lv_iload_n hx hb d_Y_changes_47 rfl (lv_at hl 2 rfl) ?_
                    refine lv_iload hx hb d_Y_changes_48 (lv_at hl 6 rfl) ?_
                    refine ni_add hx hb d_Y_changes_50 ?_
                    refine lv_iconst (v := nI 1) hx hb d_Y_changes_51 (by decide) ?_
                    refine ni_sub hx hb (by omega) d_Y_changes_52 ?_
                    refine lY_a C h ((a + (x + 1)) - 1) (by omega) d_Y_changes_53 ?_
                    refine ni_top (y := fa (a + x)) (by rw [show a + (x + 1) - 1 = a + x by omega]) ?_
                    refine lv_aload_n hx hb d_Y_changes_54 rfl (lv_at hl 1 rfl) ?_
                    refine gY_b C h d_Y_changes_55 ?_
                    refine lv_iload_n hx hb d_Y_changes_58 rfl (lv_at hl 4 rfl) ?_
                    refine lv_iload hx hb d_Y_changes_59 (lv_at hl 7 rfl) ?_
                    refine ni_add hx hb d_Y_changes_61 ?_
                    refine lv_iconst (v := nI 1) hx hb d_Y_changes_62 (by decide) ?_
                    refine ni_sub hx hb (by omega) d_Y_changes_63 ?_
                    refine lY_b C h ((t + (y + 1)) - 1) (by omega) d_Y_changes_64 ?_
                    refine ni_top (y := fb (t + y)) (by rw [show t + (y + 1) - 1 = t + y by omega]) ?_
                    refine lv_icmp_ne (tgt := 72) hx hb d_Y_changes_65 (by decide) (fun ce => ?_) (fun ce => ?_)
                    · refine lv_iconst (v := nI 1) hx hb d_Y_changes_72 (by decide) ?_
                      refine lv_istore (lv' := [(8, .int (nI 1)), (7, .int (nI (x + 1))), (0, .ref (q 0)), (1, .int (nI a)), (2, .int (nI k)), (3, .int (nI t)), (4, .int (nI j)), (5, .int (nI (x + 1))), (6, .int (nI (y + 1)))]) hx hb d_Y_changes_73 hl (by decide) rfl (fun ls hl => ?_)
                      refine lv_aload_n hx hb d_Y_changes_75 rfl (lv_at hl 2 rfl) ?_
                      refine lv_aload_n hx hb d_Y_changes_76 rfl (lv_at hl 2 rfl) ?_
                      refine gY_table C h d_Y_changes_77 ?_
                      refine lv_iload hx hb d_Y_changes_80 (lv_at hl 7 rfl) ?_
                      refine lv_iconst (v := nI 1) hx hb d_Y_changes_82 (by decide) ?_
                      refine ni_sub hx hb (by omega) d_Y_changes_83 ?_
                      refine lv_bipush (v := nI 15) hx hb d_Y_changes_84 (by decide) ?_
                      refine ni_mul hx hb d_Y_changes_86 ?_
                      refine lv_iload hx hb d_Y_changes_87 (lv_at hl 8 rfl) ?_
                      refine ni_add hx hb d_Y_changes_89 ?_
                      refine lY_table C h ((((x + 1) - 1) * 15) + (y + 1)) (by omega) d_Y_changes_90 ?_
                      refine ni_top (y := nI (sw_e fa fb a t x (y + 1))) (by rw [show (x + 1 - 1) * 15 + (y + 1) = x * 15 + (y + 1) by omega]; exact htb x (y + 1) (by omega) (by omega)) ?_
                      refine lv_aload_n hx hb d_Y_changes_91 rfl (lv_at hl 2 rfl) ?_
                      refine gY_table C h d_Y_changes_92 ?_
                      refine lv_iload hx hb d_Y_changes_95 (lv_at hl 7 rfl) ?_
                      refine lv_bipush (v := nI 15) hx hb d_Y_changes_97 (by decide) ?_
                      refine ni_mul hx hb d_Y_changes_99 ?_
                      refine lv_iload hx hb d_Y_changes_100 (lv_at hl 8 rfl) ?_
                      refine ni_add hx hb d_Y_changes_102 ?_
                      refine lv_iconst (v := nI 1) hx hb d_Y_changes_103 (by decide) ?_
                      refine ni_sub hx hb (by omega) d_Y_changes_104 ?_
                      refine lY_table C h ((((x + 1) * 15) + (y + 1)) - 1) (by omega) d_Y_changes_105 ?_
                      refine ni_top (y := nI (sw_e fa fb a t (x + 1) y)) (by rw [show (x + 1) * 15 + (y + 1) - 1 = (x + 1) * 15 + y by omega]; exact htb (x + 1) y (by omega) (by omega)) ?_
                      refine ck_i (n := 2) (ci := 1) (rest := []) C h (c_Y_least (a := sw_e fa fb a t x (y + 1)) (b := sw_e fa fb a t (x + 1) y) (by omega) (by omega)) rfl rfl (tb_goodIn tl_Y_33 ti_Y_least ts_Y_least tn_Y tc_Y_least) (by decide +kernel) ⟨Nat.le_of_ble_eq_true rfl, Nat.le_of_ble_eq_true rfl⟩ rfl hl rfl (Nat.le_of_ble_eq_true rfl) ⟨Nat.zero_le _, Nat.zero_le _⟩ d_Y_changes_106 (fun r u H locs h2 h => ?_)
                      subst h2
                      refine lv_iconst (v := nI 1) hx hb d_Y_changes_109 (by decide) ?_
                      refine ni_add hx hb d_Y_changes_110 ?_
                      refine lv_istore (lv' := [(9, .int (nI ((min (sw_e fa fb a t x (y + 1)) (sw_e fa fb a t (x + 1) y)) + 1))), (8, .int (nI 1)), (7, .int (nI (x + 1))), (0, .ref (q 0)), (1, .int (nI a)), (2, .int (nI k)), (3, .int (nI t)), (4, .int (nI j)), (5, .int (nI (x + 1))), (6, .int (nI (y + 1)))]) hx hb d_Y_changes_111 hl (by decide) rfl (fun ls hl => ?_)
                      refine lv_aload_n hx hb d_Y_changes_113 rfl (lv_at hl 3 rfl) ?_
                      refine lv_aload_n hx hb d_Y_changes_114 rfl (lv_at hl 3 rfl) ?_
                      refine gY_table C h d_Y_changes_115 ?_
                      refine lv_iload hx hb d_Y_changes_118 (lv_at hl 8 rfl) ?_
                      refine lv_iconst (v := nI 1) hx hb d_Y_changes_120 (by decide) ?_
                      refine ni_sub hx hb (by omega) d_Y_changes_121 ?_
                      refine lv_bipush (v := nI 15) hx hb d_Y_changes_122 (by decide) ?_
                      refine ni_mul hx hb d_Y_changes_124 ?_
                      refine lv_iload hx hb d_Y_changes_125 (lv_at hl 9 rfl) ?_
                      refine ni_add hx hb d_Y_changes_127 ?_
                      refine lv_iconst (v := nI 1) hx hb d_Y_changes_128 (by decide) ?_
                      refine ni_sub hx hb (by omega) d_Y_changes_129 ?_
                      refine lY_table C h (((((x + 1) - 1) * 15) + (y + 1)) - 1) (by omega) d_Y_changes_130 ?_
                      refine ni_top (y := nI (sw_e fa fb a t x y)) (by rw [show (x + 1 - 1) * 15 + (y + 1) - 1 = x * 15 + y by omega]; exact htb x y (by omega) (by omega)) ?_
                      refine lv_iload hx hb d_Y_changes_131 (lv_at hl 1 rfl) ?_
                      refine ni_add hx hb d_Y_changes_133 ?_
                      refine lv_iload hx hb d_Y_changes_134 (lv_at hl 0 rfl) ?_
                      refine ck_i (n := 2) (ci := 1) (rest := []) C h (c_Y_least (a := sw_e fa fb a t x y + 1) (b := min (sw_e fa fb a t x (y + 1)) (sw_e fa fb a t (x + 1) y) + 1) (by omega) (by omega)) rfl rfl (tb_goodIn tl_Y_33 ti_Y_least ts_Y_least tn_Y tc_Y_least) (by decide +kernel) ⟨Nat.le_of_ble_eq_true rfl, Nat.le_of_ble_eq_true rfl⟩ rfl hl rfl (Nat.le_of_ble_eq_true rfl) ⟨Nat.zero_le _, Nat.zero_le _⟩ d_Y_changes_136 (fun r u H locs h2 h => ?_)
                      subst h2
                      refine lv_istore (lv' := [(7, .int (nI (min (sw_e fa fb a t x y + 1) (min (sw_e fa fb a t x (y + 1)) (sw_e fa fb a t (x + 1) y) + 1)))), (9, .int (nI ((min (sw_e fa fb a t x (y + 1)) (sw_e fa fb a t (x + 1) y)) + 1))), (8, .int (nI 1)), (0, .ref (q 0)), (1, .int (nI a)), (2, .int (nI k)), (3, .int (nI t)), (4, .int (nI j)), (5, .int (nI (x + 1))), (6, .int (nI (y + 1)))]) hx hb d_Y_changes_139 hl (by decide) rfl (fun ls hl => ?_)
                      exact join (min (sw_e fa fb a t x y + 1) (min (sw_e fa fb a t x (y + 1)) (sw_e fa fb a t (x + 1) y) + 1)) (sw_e_ne ce) _ _ _ h (lv_sub hl [3, 4, 5, 6, 7, 8, 9, 0] rfl)
                    · refine lv_iconst (v := nI 0) hx hb d_Y_changes_68 (by decide) ?_
                      refine lv_goto (tgt := 73) hx hb d_Y_changes_69 (by decide) ?_
                      refine lv_istore (lv' := [(8, .int (nI 0)), (7, .int (nI (x + 1))), (0, .ref (q 0)), (1, .int (nI a)), (2, .int (nI k)), (3, .int (nI t)), (4, .int (nI j)), (5, .int (nI (x + 1))), (6, .int (nI (y + 1)))]) hx hb d_Y_changes_73 hl (by decide) rfl (fun ls hl => ?_)
                      refine lv_aload_n hx hb d_Y_changes_75 rfl (lv_at hl 2 rfl) ?_
                      refine lv_aload_n hx hb d_Y_changes_76 rfl (lv_at hl 2 rfl) ?_
                      refine gY_table C h d_Y_changes_77 ?_
                      refine lv_iload hx hb d_Y_changes_80 (lv_at hl 7 rfl) ?_
                      refine lv_iconst (v := nI 1) hx hb d_Y_changes_82 (by decide) ?_
                      refine ni_sub hx hb (by omega) d_Y_changes_83 ?_
                      refine lv_bipush (v := nI 15) hx hb d_Y_changes_84 (by decide) ?_
                      refine ni_mul hx hb d_Y_changes_86 ?_
                      refine lv_iload hx hb d_Y_changes_87 (lv_at hl 8 rfl) ?_
                      refine ni_add hx hb d_Y_changes_89 ?_
                      refine lY_table C h ((((x + 1) - 1) * 15) + (y + 1)) (by omega) d_Y_changes_90 ?_
                      refine ni_top (y := nI (sw_e fa fb a t x (y + 1))) (by rw [show (x + 1 - 1) * 15 + (y + 1) = x * 15 + (y + 1) by omega]; exact htb x (y + 1) (by omega) (by omega)) ?_
                      refine lv_aload_n hx hb d_Y_changes_91 rfl (lv_at hl 2 rfl) ?_
                      refine gY_table C h d_Y_changes_92 ?_
                      refine lv_iload hx hb d_Y_changes_95 (lv_at hl 7 rfl) ?_
                      refine lv_bipush (v := nI 15) hx hb d_Y_changes_97 (by decide) ?_
                      refine ni_mul hx hb d_Y_changes_99 ?_
                      refine lv_iload hx hb d_Y_changes_100 (lv_at hl 8 rfl) ?_
                      refine ni_add hx hb d_Y_changes_102 ?_
                      refine lv_iconst (v := nI 1) hx hb d_Y_changes_103 (by decide) ?_
                      refine ni_sub hx hb (by omega) d_Y_changes_104 ?_
                      refine lY_table C h ((((x + 1) * 15) + (y + 1)) - 1) (by omega) d_Y_changes_105 ?_
                      refine ni_top (y := nI (sw_e fa fb a t (x + 1) y)) (by rw [show (x + 1) * 15 + (y + 1) - 1 = (x + 1) * 15 + y by omega]; exact htb (x + 1) y (by omega) (by omega)) ?_
                      refine ck_i (n := 2) (ci := 1) (rest := []) C h (c_Y_least (a := sw_e fa fb a t x (y + 1)) (b := sw_e fa fb a t (x + 1) y) (by omega) (by omega)) rfl rfl (tb_goodIn tl_Y_33 ti_Y_least ts_Y_least tn_Y tc_Y_least) (by decide +kernel) ⟨Nat.le_of_ble_eq_true rfl, Nat.le_of_ble_eq_true rfl⟩ rfl hl rfl (Nat.le_of_ble_eq_true rfl) ⟨Nat.zero_le _, Nat.zero_le _⟩ d_Y_changes_106 (fun r u H locs h2 h => ?_)
                      subst h2
                      refine lv_iconst (v := nI 1) hx hb d_Y_changes_109 (by decide) ?_
                      refine ni_add hx hb d_Y_changes_110 ?_
                      refine lv_istore (lv' := [(9, .int (nI ((min (sw_e fa fb a t x (y + 1)) (sw_e fa fb a t (x + 1) y)) + 1))), (8, .int (nI 0)), (7, .int (nI (x + 1))), (0, .ref (q 0)), (1, .int (nI a)), (2, .int (nI k)), (3, .int (nI t)), (4, .int (nI j)), (5, .int (nI (x + 1))), (6, .int (nI (y + 1)))]) hx hb d_Y_changes_111 hl (by decide) rfl (fun ls hl => ?_)
                      refine lv_aload_n hx hb d_Y_changes_113 rfl (lv_at hl 3 rfl) ?_
                      refine lv_aload_n hx hb d_Y_changes_114 rfl (lv_at hl 3 rfl) ?_
                      refine gY_table C h d_Y_changes_115 ?_
                      refine lv_iload hx hb d_Y_changes_118 (lv_at hl 8 rfl) ?_
                      refine lv_iconst (v := nI 1) hx hb d_Y_changes_120 (by decide) ?_
                      refine ni_sub hx hb (by omega) d_Y_changes_121 ?_
                      refine lv_bipush (v := nI 15) hx hb d_Y_changes_122 (by decide) ?_
                      refine ni_mul hx hb d_Y_changes_124 ?_
                      refine lv_iload hx hb d_Y_changes_125 (lv_at hl 9 rfl) ?_
                      refine ni_add hx hb d_Y_changes_127 ?_
                      refine lv_iconst (v := nI 1) hx hb d_Y_changes_128 (by decide) ?_
                      refine ni_sub hx hb (by omega) d_Y_changes_129 ?_
                      refine lY_table C h (((((x + 1) - 1) * 15) + (y + 1)) - 1) (by omega) d_Y_changes_130 ?_
                      refine ni_top (y := nI (sw_e fa fb a t x y)) (by rw [show (x + 1 - 1) * 15 + (y + 1) - 1 = x * 15 + y by omega]; exact htb x y (by omega) (by omega)) ?_
                      refine lv_iload hx hb d_Y_changes_131 (lv_at hl 1 rfl) ?_
                      refine ni_add hx hb d_Y_changes_133 ?_
                      refine lv_iload hx hb d_Y_changes_134 (lv_at hl 0 rfl) ?_
                      refine ck_i (n := 2) (ci := 1) (rest := []) C h (c_Y_least (a := sw_e fa fb a t x y + 0) (b := min (sw_e fa fb a t x (y + 1)) (sw_e fa fb a t (x + 1) y) + 1) (by omega) (by omega)) rfl rfl (tb_goodIn tl_Y_33 ti_Y_least ts_Y_least tn_Y tc_Y_least) (by decide +kernel) ⟨Nat.le_of_ble_eq_true rfl, Nat.le_of_ble_eq_true rfl⟩ rfl hl rfl (Nat.le_of_ble_eq_true rfl) ⟨Nat.zero_le _, Nat.zero_le _⟩ d_Y_changes_136 (fun r u H locs h2 h => ?_)
                      subst h2
                      refine lv_istore (lv' := [(7, .int (nI (min (sw_e fa fb a t x y + 0) (min (sw_e fa fb a t x (y + 1)) (sw_e fa fb a t (x + 1) y) + 1)))), (9, .int (nI ((min (sw_e fa fb a t x (y + 1)) (sw_e fa fb a t (x + 1) y)) + 1))), (8, .int (nI 0)), (0, .ref (q 0)), (1, .int (nI a)), (2, .int (nI k)), (3, .int (nI t)), (4, .int (nI j)), (5, .int (nI (x + 1))), (6, .int (nI (y + 1)))]) hx hb d_Y_changes_139 hl (by decide) rfl (fun ls hl => ?_)
                      exact join (min (sw_e fa fb a t x y + 0) (min (sw_e fa fb a t x (y + 1)) (sw_e fa fb a t (x + 1) y) + 1)) (sw_e_eq ce) _ _ _ h (lv_sub hl [3, 4, 5, 6, 7, 8, 9, 0] rfl)
              · refine lv_iload hx hb d_Y_changes_24 (lv_at hl 6 rfl) ?_
                refine lv_goto (tgt := 31) hx hb d_Y_changes_26 (by decide) ?_
                refine lv_istore (lv' := [(7, .int (nI y)), (0, .ref (q 0)), (1, .int (nI a)), (2, .int (nI k)), (3, .int (nI t)), (4, .int (nI j)), (5, .int (nI x)), (6, .int (nI y))]) hx hb d_Y_changes_31 hl (by decide) rfl (fun ls hl => ?_)
                refine lv_iload hx hb d_Y_changes_33 (lv_at hl 6 rfl) ?_
                refine nz_le (tgt := 141) hx hb (by omega) d_Y_changes_35 (by decide) (fun cx1 => ?_) (fun cx1 => ?_)
                · subst cx0
                  exact join y (rfl) _ _ _ h (lv_sub hl [1, 2, 3, 4, 5, 6, 7, 0] rfl)
                · exact absurd cx1 (by omega)
        exact loopY (j + 1 + 1) 0 f (by omega) (by omega) (htb) _ _ _ h (lv_sub hl [1, 2, 3, 4, 5, 6, 0] rfl)
  exact loopX (k + 1 + 1) 0 ft (by omega) (by omega) (sw_tb_0 _ _ _) _ _ _ h (lv_sub hl [1, 2, 3, 4, 5, 0] rfl)
end
section
/-! THE REFERENCE, 3: questions; printed by the walker -/
set_option maxHeartbeats 4000000 in
set_option maxRecDepth 100000 in
theorem c_Y_commonB {fa fb ft fo : Nat → Int32} {m n : Nat} {i j : Int32} (hm : m ≤ 10) (hn : n ≤ 14) : MKi 2 y_Y_commonB b_Y_commonB 3 (some .int) [.int i, .int j] (YW (nI m) (nI n) fa fb ft fo) (fun r (_ : ((Nat → Int32) × (Nat → Int32))) => r = an_commonB m n fa fb i j) (fun u : ((Nat → Int32) × (Nat → Int32)) => YW (nI m) (nI n) fa fb u.1 u.2) := by
  refine ok_i (own := R_Y) (by decide) rfl (fun _ => Nat.le_of_ble_eq_true rfl) ?_
  intro l dC dI q cA p e s mi args below meth c A ls Q C hret h hl
  have hx := C.1
  have hb := C.2.1
  have hl : lv_has ls 3 [(0, .ref (q 0)), (1, .int i), (2, .int j)] := hl
  refine lv_aload_n hx hb d_Y_commonB_0 rfl (lv_at hl 0 rfl) ?_
  refine lv_iload_n hx hb d_Y_commonB_1 rfl (lv_at hl 1 rfl) ?_
  refine lv_iload_n hx hb d_Y_commonB_2 rfl (lv_at hl 2 rfl) ?_
  refine lv_aload_n hx hb d_Y_commonB_3 rfl (lv_at hl 0 rfl) ?_
  refine gY_n C h d_Y_commonB_4 ?_
  refine ck_i (n := 3) (ci := 1) (rest := []) C h (c_Y_isStretch (i := i) (j := j) (x := nI n)) rfl rfl (tb_goodIn tl_Y_37 ti_Y_isStretch ts_Y_isStretch tn_Y tc_Y_isStretch) (by decide +kernel) ⟨Nat.le_of_ble_eq_true rfl, Nat.le_of_ble_eq_true rfl⟩ rfl hl rfl (Nat.le_of_ble_eq_true rfl) ⟨Nat.zero_le _, Nat.zero_le _⟩ d_Y_commonB_7 (fun r u H locs hp h => ?_)
  refine lv_if_eq (tgt := 29) hx hb d_Y_commonB_10 (by decide) (fun c1 => ?_) (fun c1 => ?_)
  · refine lv_iconst (v := (-1)) hx hb d_Y_commonB_29 (by decide) ?_
    exact hret (-1) (ft, fo) _ _ _ _ d_Y_commonB_30 (by unfold an_commonB; rw [if_pos (Classical.not_not.mp (sw_is_f hp c1))]) h
  · have hg := sw_is_t hp c1
    have hgg := hg
    obtain ⟨i, j, rfl, rfl, hij, hj⟩ := sw_goodS (by omega) hg
    refine lv_aload_n hx hb d_Y_commonB_13 rfl (lv_at hl 0 rfl) ?_
    refine lv_iconst (v := nI 0) hx hb d_Y_commonB_14 (by decide) ?_
    refine lv_aload_n hx hb d_Y_commonB_15 rfl (lv_at hl 0 rfl) ?_
    refine gY_m C h d_Y_commonB_16 ?_
    refine lv_iload_n hx hb d_Y_commonB_19 rfl (lv_at hl 1 rfl) ?_
    refine lv_iload_n hx hb d_Y_commonB_20 rfl (lv_at hl 2 rfl) ?_
    refine lv_iload_n hx hb d_Y_commonB_21 rfl (lv_at hl 1 rfl) ?_
    refine ni_sub hx hb (by omega) d_Y_commonB_22 ?_
    refine ck_i (n := 4) (ci := 1) (rest := []) C h (c_Y_common (a := 0) (k := m) (t := i) (j := j - i) hn (by omega) (by omega) (by omega) (fun _ => by omega)) rfl rfl (tb_goodIn tl_Y_41 ti_Y_common ts_Y_common tn_Y tc_Y_common) (by decide +kernel) ⟨Nat.le_of_ble_eq_true rfl, Nat.le_of_ble_eq_true rfl⟩ rfl hl rfl (Nat.le_of_ble_eq_true rfl) ⟨Nat.zero_le _, Nat.zero_le _⟩ d_Y_commonB_23 (fun r2 f2 H locs h2 h => ?_)
    refine lv_goto (tgt := 30) hx hb d_Y_commonB_26 (by decide) ?_
    exact hret r2 (f2, fo) _ _ _ _ d_Y_commonB_30 (by rw [h2, sw_d_mod _ _ _ _ _ _ _ (by omega)]; unfold an_commonB; rw [if_neg hgg, iN_n (by omega), iN_n (by omega)]) h

set_option maxHeartbeats 4000000 in
set_option maxRecDepth 100000 in
theorem c_Y_commonA {fa fb ft fo : Nat → Int32} {m n : Nat} {i j : Int32} (hm : m ≤ 10) (hn : n ≤ 14) : MKi 2 y_Y_commonA b_Y_commonA 3 (some .int) [.int i, .int j] (YW (nI m) (nI n) fa fb ft fo) (fun r (_ : ((Nat → Int32) × (Nat → Int32))) => r = an_commonA m n fa fb i j) (fun u : ((Nat → Int32) × (Nat → Int32)) => YW (nI m) (nI n) fa fb u.1 u.2) := by
  refine ok_i (own := R_Y) (by decide) rfl (fun _ => Nat.le_of_ble_eq_true rfl) ?_
  intro l dC dI q cA p e s mi args below meth c A ls Q C hret h hl
  have hx := C.1
  have hb := C.2.1
  have hl : lv_has ls 3 [(0, .ref (q 0)), (1, .int i), (2, .int j)] := hl
  refine lv_aload_n hx hb d_Y_commonA_0 rfl (lv_at hl 0 rfl) ?_
  refine lv_iload_n hx hb d_Y_commonA_1 rfl (lv_at hl 1 rfl) ?_
  refine lv_iload_n hx hb d_Y_commonA_2 rfl (lv_at hl 2 rfl) ?_
  refine lv_aload_n hx hb d_Y_commonA_3 rfl (lv_at hl 0 rfl) ?_
  refine gY_m C h d_Y_commonA_4 ?_
  refine ck_i (n := 3) (ci := 1) (rest := []) C h (c_Y_isStretch (i := i) (j := j) (x := nI m)) rfl rfl (tb_goodIn tl_Y_37 ti_Y_isStretch ts_Y_isStretch tn_Y tc_Y_isStretch) (by decide +kernel) ⟨Nat.le_of_ble_eq_true rfl, Nat.le_of_ble_eq_true rfl⟩ rfl hl rfl (Nat.le_of_ble_eq_true rfl) ⟨Nat.zero_le _, Nat.zero_le _⟩ d_Y_commonA_7 (fun r u H locs hp h => ?_)
  refine lv_if_eq (tgt := 29) hx hb d_Y_commonA_10 (by decide) (fun c1 => ?_) (fun c1 => ?_)
  · refine lv_iconst (v := (-1)) hx hb d_Y_commonA_29 (by decide) ?_
    exact hret (-1) (ft, fo) _ _ _ _ d_Y_commonA_30 (by unfold an_commonA; rw [if_pos (Classical.not_not.mp (sw_is_f hp c1))]) h
  · have hg := sw_is_t hp c1
    have hgg := hg
    obtain ⟨i, j, rfl, rfl, hij, hj⟩ := sw_goodS (by omega) hg
    refine lv_aload_n hx hb d_Y_commonA_13 rfl (lv_at hl 0 rfl) ?_
    refine lv_iload_n hx hb d_Y_commonA_14 rfl (lv_at hl 1 rfl) ?_
    refine lv_iload_n hx hb d_Y_commonA_15 rfl (lv_at hl 2 rfl) ?_
    refine lv_iload_n hx hb d_Y_commonA_16 rfl (lv_at hl 1 rfl) ?_
    refine ni_sub hx hb (by omega) d_Y_commonA_17 ?_
    refine lv_iconst (v := nI 0) hx hb d_Y_commonA_18 (by decide) ?_
    refine lv_aload_n hx hb d_Y_commonA_19 rfl (lv_at hl 0 rfl) ?_
    refine gY_n C h d_Y_commonA_20 ?_
    refine ck_i (n := 4) (ci := 1) (rest := []) C h (c_Y_common (a := i) (k := j - i) (t := 0) (j := n) hn (by omega) (by omega) (by omega) (fun _ => by omega)) rfl rfl (tb_goodIn tl_Y_41 ti_Y_common ts_Y_common tn_Y tc_Y_common) (by decide +kernel) ⟨Nat.le_of_ble_eq_true rfl, Nat.le_of_ble_eq_true rfl⟩ rfl hl rfl (Nat.le_of_ble_eq_true rfl) ⟨Nat.zero_le _, Nat.zero_le _⟩ d_Y_commonA_23 (fun r2 f2 H locs h2 h => ?_)
    refine lv_goto (tgt := 30) hx hb d_Y_commonA_26 (by decide) ?_
    exact hret r2 (f2, fo) _ _ _ _ d_Y_commonA_30 (by rw [h2, sw_d_mod _ _ _ _ _ _ _ (by omega)]; unfold an_commonA; rw [if_neg hgg, iN_n (by omega), iN_n (by omega)]) h

set_option maxHeartbeats 4000000 in
set_option maxRecDepth 100000 in
theorem c_Y_changesB {fa fb ft fo : Nat → Int32} {m n : Nat} {i j : Int32} (hm : m ≤ 10) (hn : n ≤ 14) : MKi 2 y_Y_changesB b_Y_changesB 3 (some .int) [.int i, .int j] (YW (nI m) (nI n) fa fb ft fo) (fun r (_ : ((Nat → Int32) × (Nat → Int32))) => r = an_changesB m n fa fb i j) (fun u : ((Nat → Int32) × (Nat → Int32)) => YW (nI m) (nI n) fa fb u.1 u.2) := by
  refine ok_i (own := R_Y) (by decide) rfl (fun _ => Nat.le_of_ble_eq_true rfl) ?_
  intro l dC dI q cA p e s mi args below meth c A ls Q C hret h hl
  have hx := C.1
  have hb := C.2.1
  have hl : lv_has ls 3 [(0, .ref (q 0)), (1, .int i), (2, .int j)] := hl
  refine lv_aload_n hx hb d_Y_changesB_0 rfl (lv_at hl 0 rfl) ?_
  refine lv_iload_n hx hb d_Y_changesB_1 rfl (lv_at hl 1 rfl) ?_
  refine lv_iload_n hx hb d_Y_changesB_2 rfl (lv_at hl 2 rfl) ?_
  refine lv_aload_n hx hb d_Y_changesB_3 rfl (lv_at hl 0 rfl) ?_
  refine gY_n C h d_Y_changesB_4 ?_
  refine ck_i (n := 3) (ci := 1) (rest := []) C h (c_Y_isStretch (i := i) (j := j) (x := nI n)) rfl rfl (tb_goodIn tl_Y_37 ti_Y_isStretch ts_Y_isStretch tn_Y tc_Y_isStretch) (by decide +kernel) ⟨Nat.le_of_ble_eq_true rfl, Nat.le_of_ble_eq_true rfl⟩ rfl hl rfl (Nat.le_of_ble_eq_true rfl) ⟨Nat.zero_le _, Nat.zero_le _⟩ d_Y_changesB_7 (fun r u H locs hp h => ?_)
  refine lv_if_eq (tgt := 29) hx hb d_Y_changesB_10 (by decide) (fun c1 => ?_) (fun c1 => ?_)
  · refine lv_iconst (v := (-1)) hx hb d_Y_changesB_29 (by decide) ?_
    exact hret (-1) (ft, fo) _ _ _ _ d_Y_changesB_30 (by unfold an_changesB; rw [if_pos (Classical.not_not.mp (sw_is_f hp c1))]) h
  · have hg := sw_is_t hp c1
    have hgg := hg
    obtain ⟨i, j, rfl, rfl, hij, hj⟩ := sw_goodS (by omega) hg
    refine lv_aload_n hx hb d_Y_changesB_13 rfl (lv_at hl 0 rfl) ?_
    refine lv_iconst (v := nI 0) hx hb d_Y_changesB_14 (by decide) ?_
    refine lv_aload_n hx hb d_Y_changesB_15 rfl (lv_at hl 0 rfl) ?_
    refine gY_m C h d_Y_changesB_16 ?_
    refine lv_iload_n hx hb d_Y_changesB_19 rfl (lv_at hl 1 rfl) ?_
    refine lv_iload_n hx hb d_Y_changesB_20 rfl (lv_at hl 2 rfl) ?_
    refine lv_iload_n hx hb d_Y_changesB_21 rfl (lv_at hl 1 rfl) ?_
    refine ni_sub hx hb (by omega) d_Y_changesB_22 ?_
    refine ck_i (n := 4) (ci := 1) (rest := []) C h (c_Y_changes (a := 0) (k := m) (t := i) (j := j - i) (by omega) (by omega)) rfl rfl (tb_goodIn tl_Y_45 ti_Y_changes ts_Y_changes tn_Y tc_Y_changes) (by decide +kernel) ⟨Nat.le_of_ble_eq_true rfl, Nat.le_of_ble_eq_true rfl⟩ rfl hl rfl (Nat.le_of_ble_eq_true rfl) ⟨Nat.zero_le _, Nat.zero_le _⟩ d_Y_changesB_23 (fun r2 f2 H locs h2 h => ?_)
    refine lv_goto (tgt := 30) hx hb d_Y_changesB_26 (by decide) ?_
    exact hret r2 (f2, fo) _ _ _ _ d_Y_changesB_30 (by rw [h2]; unfold an_changesB; rw [if_neg hgg, iN_n (by omega), iN_n (by omega)]) h

set_option maxHeartbeats 4000000 in
set_option maxRecDepth 100000 in
theorem c_Y_changesA {fa fb ft fo : Nat → Int32} {m n : Nat} {i j : Int32} (hm : m ≤ 10) (hn : n ≤ 14) : MKi 2 y_Y_changesA b_Y_changesA 3 (some .int) [.int i, .int j] (YW (nI m) (nI n) fa fb ft fo) (fun r (_ : ((Nat → Int32) × (Nat → Int32))) => r = an_changesA m n fa fb i j) (fun u : ((Nat → Int32) × (Nat → Int32)) => YW (nI m) (nI n) fa fb u.1 u.2) := by
  refine ok_i (own := R_Y) (by decide) rfl (fun _ => Nat.le_of_ble_eq_true rfl) ?_
  intro l dC dI q cA p e s mi args below meth c A ls Q C hret h hl
  have hx := C.1
  have hb := C.2.1
  have hl : lv_has ls 3 [(0, .ref (q 0)), (1, .int i), (2, .int j)] := hl
  refine lv_aload_n hx hb d_Y_changesA_0 rfl (lv_at hl 0 rfl) ?_
  refine lv_iload_n hx hb d_Y_changesA_1 rfl (lv_at hl 1 rfl) ?_
  refine lv_iload_n hx hb d_Y_changesA_2 rfl (lv_at hl 2 rfl) ?_
  refine lv_aload_n hx hb d_Y_changesA_3 rfl (lv_at hl 0 rfl) ?_
  refine gY_m C h d_Y_changesA_4 ?_
  refine ck_i (n := 3) (ci := 1) (rest := []) C h (c_Y_isStretch (i := i) (j := j) (x := nI m)) rfl rfl (tb_goodIn tl_Y_37 ti_Y_isStretch ts_Y_isStretch tn_Y tc_Y_isStretch) (by decide +kernel) ⟨Nat.le_of_ble_eq_true rfl, Nat.le_of_ble_eq_true rfl⟩ rfl hl rfl (Nat.le_of_ble_eq_true rfl) ⟨Nat.zero_le _, Nat.zero_le _⟩ d_Y_changesA_7 (fun r u H locs hp h => ?_)
  refine lv_if_eq (tgt := 29) hx hb d_Y_changesA_10 (by decide) (fun c1 => ?_) (fun c1 => ?_)
  · refine lv_iconst (v := (-1)) hx hb d_Y_changesA_29 (by decide) ?_
    exact hret (-1) (ft, fo) _ _ _ _ d_Y_changesA_30 (by unfold an_changesA; rw [if_pos (Classical.not_not.mp (sw_is_f hp c1))]) h
  · have hg := sw_is_t hp c1
    have hgg := hg
    obtain ⟨i, j, rfl, rfl, hij, hj⟩ := sw_goodS (by omega) hg
    refine lv_aload_n hx hb d_Y_changesA_13 rfl (lv_at hl 0 rfl) ?_
    refine lv_iload_n hx hb d_Y_changesA_14 rfl (lv_at hl 1 rfl) ?_
    refine lv_iload_n hx hb d_Y_changesA_15 rfl (lv_at hl 2 rfl) ?_
    refine lv_iload_n hx hb d_Y_changesA_16 rfl (lv_at hl 1 rfl) ?_
    refine ni_sub hx hb (by omega) d_Y_changesA_17 ?_
    refine lv_iconst (v := nI 0) hx hb d_Y_changesA_18 (by decide) ?_
    refine lv_aload_n hx hb d_Y_changesA_19 rfl (lv_at hl 0 rfl) ?_
    refine gY_n C h d_Y_changesA_20 ?_
    refine ck_i (n := 4) (ci := 1) (rest := []) C h (c_Y_changes (a := i) (k := j - i) (t := 0) (j := n) (by omega) (by omega)) rfl rfl (tb_goodIn tl_Y_45 ti_Y_changes ts_Y_changes tn_Y tc_Y_changes) (by decide +kernel) ⟨Nat.le_of_ble_eq_true rfl, Nat.le_of_ble_eq_true rfl⟩ rfl hl rfl (Nat.le_of_ble_eq_true rfl) ⟨Nat.zero_le _, Nat.zero_le _⟩ d_Y_changesA_23 (fun r2 f2 H locs h2 h => ?_)
    refine lv_goto (tgt := 30) hx hb d_Y_changesA_26 (by decide) ?_
    exact hret r2 (f2, fo) _ _ _ _ d_Y_changesA_30 (by rw [h2]; unfold an_changesA; rw [if_neg hgg, iN_n (by omega), iN_n (by omega)]) h

set_option maxHeartbeats 4000000 in
set_option maxRecDepth 100000 in
theorem c_Y_commonEnd {fa fb ft fo : Nat → Int32} {m n : Nat} {k j : Int32} (hm : m ≤ 10) (hn : n ≤ 14) : MKi 2 y_Y_commonEnd b_Y_commonEnd 3 (some .int) [.int k, .int j] (YW (nI m) (nI n) fa fb ft fo) (fun r (_ : ((Nat → Int32) × (Nat → Int32))) => r = an_commonEnd m n fa fb k j) (fun u : ((Nat → Int32) × (Nat → Int32)) => YW (nI m) (nI n) fa fb u.1 u.2) := by
  refine ok_i (own := R_Y) (by decide) rfl (fun _ => Nat.le_of_ble_eq_true rfl) ?_
  intro l dC dI q cA p e s mi args below meth c A ls Q C hret h hl
  have hx := C.1
  have hb := C.2.1
  have hl : lv_has ls 3 [(0, .ref (q 0)), (1, .int k), (2, .int j)] := hl
  refine lv_iload_n hx hb d_Y_commonEnd_0 rfl (lv_at hl 1 rfl) ?_
  refine lv_if_lt (tgt := 24) hx hb d_Y_commonEnd_1 (by decide) (fun c1 => ?_) (fun c1 => ?_)
  · refine lv_iconst (v := (-1)) hx hb d_Y_commonEnd_24 (by decide) ?_
    exact hret (-1) (ft, fo) _ _ _ _ d_Y_commonEnd_25 (by unfold an_commonEnd; rw [if_pos (Or.inl c1)]) h
  · refine lv_iload_n hx hb d_Y_commonEnd_4 rfl (lv_at hl 1 rfl) ?_
    refine lv_aload_n hx hb d_Y_commonEnd_5 rfl (lv_at hl 0 rfl) ?_
    refine gY_m C h d_Y_commonEnd_6 ?_
    refine lv_icmp_gt (tgt := 24) hx hb d_Y_commonEnd_9 (by decide) (fun c2 => ?_) (fun c2 => ?_)
    · refine lv_iconst (v := (-1)) hx hb d_Y_commonEnd_24 (by decide) ?_
      exact hret (-1) (ft, fo) _ _ _ _ d_Y_commonEnd_25 (by unfold an_commonEnd; rw [if_pos (Or.inr (Or.inl c2))]) h
    · refine lv_iload_n hx hb d_Y_commonEnd_12 rfl (lv_at hl 2 rfl) ?_
      refine lv_if_lt (tgt := 24) hx hb d_Y_commonEnd_13 (by decide) (fun c3 => ?_) (fun c3 => ?_)
      · refine lv_iconst (v := (-1)) hx hb d_Y_commonEnd_24 (by decide) ?_
        exact hret (-1) (ft, fo) _ _ _ _ d_Y_commonEnd_25 (by unfold an_commonEnd; rw [if_pos (Or.inr (Or.inr (Or.inl c3)))]) h
      · refine lv_iload_n hx hb d_Y_commonEnd_16 rfl (lv_at hl 2 rfl) ?_
        refine lv_aload_n hx hb d_Y_commonEnd_17 rfl (lv_at hl 0 rfl) ?_
        refine gY_n C h d_Y_commonEnd_18 ?_
        refine lv_icmp_le (tgt := 26) hx hb d_Y_commonEnd_21 (by decide) (fun c4 => ?_) (fun c4 => ?_)
        · have hg : ¬ sw_bc k j m n := fun z => z.elim c1 (fun z => z.elim c2 (fun z => z.elim c3 (sw_nlt.mpr c4)))
          have hgg := hg
          obtain ⟨k, j, rfl, rfl, hk, hj⟩ := sw_goodC (by omega) (by omega) hg
          refine lv_aload_n hx hb d_Y_commonEnd_26 rfl (lv_at hl 0 rfl) ?_
          refine lv_aload_n hx hb d_Y_commonEnd_27 rfl (lv_at hl 0 rfl) ?_
          refine gY_m C h d_Y_commonEnd_28 ?_
          refine lv_iload_n hx hb d_Y_commonEnd_31 rfl (lv_at hl 1 rfl) ?_
          refine ni_sub hx hb (by omega) d_Y_commonEnd_32 ?_
          refine lv_iload_n hx hb d_Y_commonEnd_33 rfl (lv_at hl 1 rfl) ?_
          refine lv_iconst (v := nI 0) hx hb d_Y_commonEnd_34 (by decide) ?_
          refine lv_iload_n hx hb d_Y_commonEnd_35 rfl (lv_at hl 2 rfl) ?_
          refine ck_i (n := 4) (ci := 1) (rest := []) C h (c_Y_common (a := m - k) (k := k) (t := 0) (j := j) hn (by omega) (by omega) (by omega) (fun _ => by omega)) rfl rfl (tb_goodIn tl_Y_41 ti_Y_common ts_Y_common tn_Y tc_Y_common) (by decide +kernel) ⟨Nat.le_of_ble_eq_true rfl, Nat.le_of_ble_eq_true rfl⟩ rfl hl rfl (Nat.le_of_ble_eq_true rfl) ⟨Nat.zero_le _, Nat.zero_le _⟩ d_Y_commonEnd_36 (fun r2 f2 H locs h2 h => ?_)
          exact hret r2 (f2, fo) _ _ _ _ d_Y_commonEnd_39 (by rw [h2, sw_d_mod _ _ _ _ _ _ _ (by omega)]; unfold an_commonEnd; rw [if_neg hgg, iN_n (by omega), iN_n (by omega)]) h
        · refine lv_iconst (v := (-1)) hx hb d_Y_commonEnd_24 (by decide) ?_
          exact hret (-1) (ft, fo) _ _ _ _ d_Y_commonEnd_25 (by unfold an_commonEnd; rw [if_pos (Or.inr (Or.inr (Or.inr (sw_nle.mp c4))))]) h

set_option maxHeartbeats 4000000 in
set_option maxRecDepth 100000 in
theorem c_Y_commonBegin {fa fb ft fo : Nat → Int32} {m n : Nat} {k j : Int32} (hm : m ≤ 10) (hn : n ≤ 14) : MKi 2 y_Y_commonBegin b_Y_commonBegin 3 (some .int) [.int k, .int j] (YW (nI m) (nI n) fa fb ft fo) (fun r (_ : ((Nat → Int32) × (Nat → Int32))) => r = an_commonBegin m n fa fb k j) (fun u : ((Nat → Int32) × (Nat → Int32)) => YW (nI m) (nI n) fa fb u.1 u.2) := by
  refine ok_i (own := R_Y) (by decide) rfl (fun _ => Nat.le_of_ble_eq_true rfl) ?_
  intro l dC dI q cA p e s mi args below meth c A ls Q C hret h hl
  have hx := C.1
  have hb := C.2.1
  have hl : lv_has ls 3 [(0, .ref (q 0)), (1, .int k), (2, .int j)] := hl
  refine lv_iload_n hx hb d_Y_commonBegin_0 rfl (lv_at hl 1 rfl) ?_
  refine lv_if_lt (tgt := 24) hx hb d_Y_commonBegin_1 (by decide) (fun c1 => ?_) (fun c1 => ?_)
  · refine lv_iconst (v := (-1)) hx hb d_Y_commonBegin_24 (by decide) ?_
    exact hret (-1) (ft, fo) _ _ _ _ d_Y_commonBegin_25 (by unfold an_commonBegin; rw [if_pos (Or.inl c1)]) h
  · refine lv_iload_n hx hb d_Y_commonBegin_4 rfl (lv_at hl 1 rfl) ?_
    refine lv_aload_n hx hb d_Y_commonBegin_5 rfl (lv_at hl 0 rfl) ?_
    refine gY_m C h d_Y_commonBegin_6 ?_
    refine lv_icmp_gt (tgt := 24) hx hb d_Y_commonBegin_9 (by decide) (fun c2 => ?_) (fun c2 => ?_)
    · refine lv_iconst (v := (-1)) hx hb d_Y_commonBegin_24 (by decide) ?_
      exact hret (-1) (ft, fo) _ _ _ _ d_Y_commonBegin_25 (by unfold an_commonBegin; rw [if_pos (Or.inr (Or.inl c2))]) h
    · refine lv_iload_n hx hb d_Y_commonBegin_12 rfl (lv_at hl 2 rfl) ?_
      refine lv_if_lt (tgt := 24) hx hb d_Y_commonBegin_13 (by decide) (fun c3 => ?_) (fun c3 => ?_)
      · refine lv_iconst (v := (-1)) hx hb d_Y_commonBegin_24 (by decide) ?_
        exact hret (-1) (ft, fo) _ _ _ _ d_Y_commonBegin_25 (by unfold an_commonBegin; rw [if_pos (Or.inr (Or.inr (Or.inl c3)))]) h
      · refine lv_iload_n hx hb d_Y_commonBegin_16 rfl (lv_at hl 2 rfl) ?_
        refine lv_aload_n hx hb d_Y_commonBegin_17 rfl (lv_at hl 0 rfl) ?_
        refine gY_n C h d_Y_commonBegin_18 ?_
        refine lv_icmp_le (tgt := 26) hx hb d_Y_commonBegin_21 (by decide) (fun c4 => ?_) (fun c4 => ?_)
        · have hg : ¬ sw_bc k j m n := fun z => z.elim c1 (fun z => z.elim c2 (fun z => z.elim c3 (sw_nlt.mpr c4)))
          have hgg := hg
          obtain ⟨k, j, rfl, rfl, hk, hj⟩ := sw_goodC (by omega) (by omega) hg
          refine lv_aload_n hx hb d_Y_commonBegin_26 rfl (lv_at hl 0 rfl) ?_
          refine lv_iconst (v := nI 0) hx hb d_Y_commonBegin_27 (by decide) ?_
          refine lv_iload_n hx hb d_Y_commonBegin_28 rfl (lv_at hl 1 rfl) ?_
          refine lv_aload_n hx hb d_Y_commonBegin_29 rfl (lv_at hl 0 rfl) ?_
          refine gY_n C h d_Y_commonBegin_30 ?_
          refine lv_iload_n hx hb d_Y_commonBegin_33 rfl (lv_at hl 2 rfl) ?_
          refine ni_sub hx hb (by omega) d_Y_commonBegin_34 ?_
          refine lv_iload_n hx hb d_Y_commonBegin_35 rfl (lv_at hl 2 rfl) ?_
          refine ck_i (n := 4) (ci := 1) (rest := []) C h (c_Y_common (a := 0) (k := k) (t := n - j) (j := j) hn (by omega) (by omega) (by omega) (fun _ => by omega)) rfl rfl (tb_goodIn tl_Y_41 ti_Y_common ts_Y_common tn_Y tc_Y_common) (by decide +kernel) ⟨Nat.le_of_ble_eq_true rfl, Nat.le_of_ble_eq_true rfl⟩ rfl hl rfl (Nat.le_of_ble_eq_true rfl) ⟨Nat.zero_le _, Nat.zero_le _⟩ d_Y_commonBegin_36 (fun r2 f2 H locs h2 h => ?_)
          exact hret r2 (f2, fo) _ _ _ _ d_Y_commonBegin_39 (by rw [h2, sw_d_mod _ _ _ _ _ _ _ (by omega)]; unfold an_commonBegin; rw [if_neg hgg, iN_n (by omega), iN_n (by omega)]) h
        · refine lv_iconst (v := (-1)) hx hb d_Y_commonBegin_24 (by decide) ?_
          exact hret (-1) (ft, fo) _ _ _ _ d_Y_commonBegin_25 (by unfold an_commonBegin; rw [if_pos (Or.inr (Or.inr (Or.inr (sw_nle.mp c4))))]) h

set_option maxHeartbeats 4000000 in
set_option maxRecDepth 100000 in
theorem c_Y_nearest {fa fb ft fo : Nat → Int32} {m n : Nat} (hm : m ≤ 10) (hn : n ≤ 14) : MKi 2 y_Y_nearest b_Y_nearest 5 (some .int) [] (YW (nI m) (nI n) fa fb ft fo) (fun r (_ : ((Nat → Int32) × (Nat → Int32))) => an_isMin m n fa fb r) (fun u : ((Nat → Int32) × (Nat → Int32)) => YW (nI m) (nI n) fa fb u.1 u.2) := by
  refine ok_i (own := R_Y) (by decide) rfl (fun _ => Nat.le_of_ble_eq_true rfl) ?_
  intro l dC dI q cA p e s mi args below meth c A ls Q C hret h hl
  have hx := C.1
  have hb := C.2.1
  have hl : lv_has ls 5 [(0, .ref (q 0))] := hl
  refine lv_aload_n hx hb d_Y_nearest_0 rfl (lv_at hl 0 rfl) ?_
  refine gY_m C h d_Y_nearest_1 ?_
  refine lv_istore_n (lv' := [(1, .int (nI m)), (0, .ref (q 0))]) hx hb d_Y_nearest_4 rfl hl (by decide) rfl (fun ls hl => ?_)
  refine lv_iconst (v := nI 0) hx hb d_Y_nearest_5 (by decide) ?_
  refine lv_istore_n (lv' := [(2, .int (nI 0)), (1, .int (nI m)), (0, .ref (q 0))]) hx hb d_Y_nearest_6 rfl hl (by decide) rfl (fun ls hl => ?_)
  have loopI : ∀ (fuel : Nat) (i b : Nat) (f : Nat → Int32), i ≤ n + 1 → n + 1 + 1 ≤ i + fuel → (b < 1000) → (sw_mn (fun i j => sw_e fa fb 0 i m (j - i)) n i i b) → ∀ (H : Heap) (locs : List Loc) (ls : Array Slot), WK s dC dI A (YW (nI m) (nI n) fa fb f fo q cA) H locs → lv_has ls 5 [(0, .ref (q 0)), (1, .int (nI b)), (2, .int (nI i))] → W p l e (rm_L 2) s mi args below meth c H locs 0 0 Q (F0 mi 7 ls []) := by
    intro fuel
    induction fuel with
    | zero => intro i b f hle hfu; exact absurd hfu (by omega)
    | succ fuel ih_loopI =>
      intro i b f hle hfu hb1 hmn H locs ls h hl
      refine lv_iload_n hx hb d_Y_nearest_7 rfl (lv_at hl 2 rfl) ?_
      refine lv_aload_n hx hb d_Y_nearest_8 rfl (lv_at hl 0 rfl) ?_
      refine gY_n C h d_Y_nearest_9 ?_
      refine nb_gt (tgt := 60) hx hb (by omega) (by omega) d_Y_nearest_12 (by decide) (fun ci => ?_) (fun ci => ?_)
      · obtain rfl : i = n + 1 := by omega
        refine lv_iload_n hx hb d_Y_nearest_60 rfl (lv_at hl 1 rfl) ?_
        exact hret (nI b) (f, fo) _ _ _ _ d_Y_nearest_61 (sw_mn_e hmn) h
      · refine lv_iload_n hx hb d_Y_nearest_15 rfl (lv_at hl 2 rfl) ?_
        refine lv_istore_n (lv' := [(3, .int (nI i)), (0, .ref (q 0)), (1, .int (nI b)), (2, .int (nI i))]) hx hb d_Y_nearest_16 rfl hl (by decide) rfl (fun ls hl => ?_)
        have loopJ : ∀ (fuelJ : Nat) (j b : Nat) (f : Nat → Int32), j ≤ n + 1 → n + 1 + 1 ≤ j + fuelJ → (i ≤ j) → (b < 1000) → (sw_mn (fun i j => sw_e fa fb 0 i m (j - i)) n i j b) → ∀ (H : Heap) (locs : List Loc) (ls : Array Slot), WK s dC dI A (YW (nI m) (nI n) fa fb f fo q cA) H locs → lv_has ls 5 [(0, .ref (q 0)), (1, .int (nI b)), (2, .int (nI i)), (3, .int (nI j))] → W p l e (rm_L 2) s mi args below meth c H locs 0 0 Q (F0 mi 17 ls []) := by
          intro fuelJ
          induction fuelJ with
          | zero => intro j b f hle hfu; exact absurd hfu (by omega)
          | succ fuelJ ih_loopJ =>
            intro j b f hle hfu hij hb1 hmn H locs ls h hl
            refine lv_iload_n hx hb d_Y_nearest_17 rfl (lv_at hl 3 rfl) ?_
            refine lv_aload_n hx hb d_Y_nearest_18 rfl (lv_at hl 0 rfl) ?_
            refine gY_n C h d_Y_nearest_19 ?_
            refine nb_gt (tgt := 54) hx hb (by omega) (by omega) d_Y_nearest_22 (by decide) (fun cj => ?_) (fun cj => ?_)
            · obtain rfl : j = n + 1 := by omega
              refine ni_iinc (k := 2) (lv' := [(2, .int (nI (i + 1))), (0, .ref (q 0)), (1, .int (nI b)), (3, .int (nI (n + 1)))]) hx hb d_Y_nearest_54 hl rfl (by decide) rfl (fun ls hl => ?_)
              refine lv_goto (tgt := 7) hx hb d_Y_nearest_57 (by decide) ?_
              exact ih_loopI (i + 1) b f (by omega) (by omega) (hb1) (sw_mn_r hmn) _ _ _ h (lv_sub hl [1, 2, 0] rfl)
            · refine lv_aload_n hx hb d_Y_nearest_25 rfl (lv_at hl 0 rfl) ?_
              refine lv_iconst (v := nI 0) hx hb d_Y_nearest_26 (by decide) ?_
              refine lv_aload_n hx hb d_Y_nearest_27 rfl (lv_at hl 0 rfl) ?_
              refine gY_m C h d_Y_nearest_28 ?_
              refine lv_iload_n hx hb d_Y_nearest_31 rfl (lv_at hl 2 rfl) ?_
              refine lv_iload_n hx hb d_Y_nearest_32 rfl (lv_at hl 3 rfl) ?_
              refine lv_iload_n hx hb d_Y_nearest_33 rfl (lv_at hl 2 rfl) ?_
              refine ni_sub hx hb (by omega) d_Y_nearest_34 ?_
              refine ck_i (n := 4) (ci := 1) (rest := []) C h (c_Y_changes (a := 0) (k := m) (t := i) (j := j - i) (by omega) (by omega)) rfl rfl (tb_goodIn tl_Y_45 ti_Y_changes ts_Y_changes tn_Y tc_Y_changes) (by decide +kernel) ⟨Nat.le_of_ble_eq_true rfl, Nat.le_of_ble_eq_true rfl⟩ rfl hl rfl (Nat.le_of_ble_eq_true rfl) ⟨Nat.zero_le _, Nat.zero_le _⟩ d_Y_nearest_35 (fun r2 f2 H locs h2 h => ?_)
              subst h2
              have hle2 := sw_e_le fa fb 0 i m (j - i)
              refine lv_istore (lv' := [(4, .int (nI (sw_e fa fb 0 i m (j - i)))), (0, .ref (q 0)), (1, .int (nI b)), (2, .int (nI i)), (3, .int (nI j))]) hx hb d_Y_nearest_38 hl (by decide) rfl (fun ls hl => ?_)
              refine lv_aload_n hx hb d_Y_nearest_40 rfl (lv_at hl 1 rfl) ?_
              refine lv_iload_n hx hb d_Y_nearest_41 rfl (lv_at hl 2 rfl) ?_
              refine lv_iload hx hb d_Y_nearest_42 (lv_at hl 0 rfl) ?_
              refine ck_i (n := 2) (ci := 1) (rest := []) C h (c_Y_least (a := b) (b := sw_e fa fb 0 i m (j - i)) (by omega) (by omega)) rfl rfl (tb_goodIn tl_Y_33 ti_Y_least ts_Y_least tn_Y tc_Y_least) (by decide +kernel) ⟨Nat.le_of_ble_eq_true rfl, Nat.le_of_ble_eq_true rfl⟩ rfl hl rfl (Nat.le_of_ble_eq_true rfl) ⟨Nat.zero_le _, Nat.zero_le _⟩ d_Y_nearest_44 (fun r3 u H locs h3 h => ?_)
              subst h3
              refine lv_istore_n (lv' := [(1, .int (nI (min b (sw_e fa fb 0 i m (j - i))))), (4, .int (nI (sw_e fa fb 0 i m (j - i)))), (0, .ref (q 0)), (2, .int (nI i)), (3, .int (nI j))]) hx hb d_Y_nearest_47 rfl hl (by decide) rfl (fun ls hl => ?_)
              refine ni_iinc (k := 4) (lv' := [(3, .int (nI (j + 1))), (1, .int (nI (min b (sw_e fa fb 0 i m (j - i))))), (4, .int (nI (sw_e fa fb 0 i m (j - i)))), (0, .ref (q 0)), (2, .int (nI i))]) hx hb d_Y_nearest_48 hl rfl (by decide) rfl (fun ls hl => ?_)
              refine lv_goto (tgt := 17) hx hb d_Y_nearest_51 (by decide) ?_
              exact ih_loopJ (j + 1) (min b (sw_e fa fb 0 i m (j - i))) f2 (by omega) (by omega) (by omega) (by omega) (sw_mn_s hmn hij (by omega)) _ _ _ h (lv_sub hl [3, 1, 4, 0] rfl)
        exact loopJ (n + 1 + 1) i b f (by omega) (by omega) (Nat.le_refl _) (hb1) (hmn) _ _ _ h (lv_sub hl [1, 2, 3, 0] rfl)
  exact loopI (n + 1 + 1) 0 m ft (by omega) (by omega) (by omega) (sw_mn_0 (sw_e_x0 _ _ _ _ _).symm) _ _ _ h (lv_sub hl [2, 1, 0] rfl)

set_option maxHeartbeats 4000000 in
set_option maxRecDepth 100000 in
theorem c_Y_nearestAt {fa fb ft fo : Nat → Int32} {m n : Nat} (hm : m ≤ 10) (hn : n ≤ 14) : MKi 3 y_Y_nearestAt b_Y_nearestAt 4 (some .int) [] (YW (nI m) (nI n) fa fb ft fo) (fun r (_ : ((Nat → Int32) × (Nat → Int32))) => an_isAt m n fa fb r) (fun u : ((Nat → Int32) × (Nat → Int32)) => YW (nI m) (nI n) fa fb u.1 u.2) := by
  refine ok_i (own := R_Y) (by decide) rfl (fun _ => Nat.le_of_ble_eq_true rfl) ?_
  intro l dC dI q cA p e s mi args below meth c A ls Q C hret h hl
  have hx := C.1
  have hb := C.2.1
  have hl : lv_has ls 4 [(0, .ref (q 0))] := hl
  refine lv_aload_n hx hb d_Y_nearestAt_0 rfl (lv_at hl 0 rfl) ?_
  refine ck_i (n := 0) (ci := 1) (rest := []) C h (c_Y_nearest hm hn) rfl rfl (tb_goodIn tl_Y_48 ti_Y_nearest ts_Y_nearest tn_Y tc_Y_nearest) (by decide +kernel) ⟨Nat.le_of_ble_eq_true rfl, Nat.le_of_ble_eq_true rfl⟩ rfl hl rfl (Nat.le_of_ble_eq_true rfl) ⟨Nat.zero_le _, Nat.zero_le _⟩ d_Y_nearestAt_1 (fun r f1 H locs hat h => ?_)
  obtain ⟨f1, g1⟩ := f1
  obtain ⟨bi, bj, hbij, hbj, rfl, hmin⟩ := hat
  have hbl := sw_e_le fa fb 0 bi m (bj - bi)
  refine lv_istore_n (lv' := [(1, .int (nI (sw_e fa fb 0 bi m (bj - bi)))), (0, .ref (q 0))]) hx hb d_Y_nearestAt_4 rfl hl (by decide) rfl (fun ls hl => ?_)
  refine lv_iconst (v := nI 0) hx hb d_Y_nearestAt_5 (by decide) ?_
  refine lv_istore_n (lv' := [(2, .int (nI 0)), (1, .int (nI (sw_e fa fb 0 bi m (bj - bi)))), (0, .ref (q 0))]) hx hb d_Y_nearestAt_6 rfl hl (by decide) rfl (fun ls hl => ?_)
  have loopI : ∀ (fuel : Nat) (i : Nat) (f : Nat → Int32), i ≤ n + 1 → n + 1 + 1 ≤ i + fuel → (∀ i2 j2, i2 ≤ j2 → j2 ≤ n → sw_bf i i i2 j2 → sw_e fa fb 0 i2 m (j2 - i2) ≠ sw_e fa fb 0 bi m (bj - bi)) → ∀ (H : Heap) (locs : List Loc) (ls : Array Slot), WK s dC dI A (YW (nI m) (nI n) fa fb f g1 q cA) H locs → lv_has ls 4 [(0, .ref (q 0)), (1, .int (nI (sw_e fa fb 0 bi m (bj - bi)))), (2, .int (nI i))] → W p l e (rm_L 3) s mi args below meth c H locs 0 0 Q (F0 mi 7 ls []) := by
    intro fuel
    induction fuel with
    | zero => intro i f hle hfu; exact absurd hfu (by omega)
    | succ fuel ih_loopI =>
      intro i f hle hfu hne H locs ls h hl
      refine lv_iload_n hx hb d_Y_nearestAt_7 rfl (lv_at hl 2 rfl) ?_
      refine lv_aload_n hx hb d_Y_nearestAt_8 rfl (lv_at hl 0 rfl) ?_
      refine gY_n C h d_Y_nearestAt_9 ?_
      refine nb_gt (tgt := 61) hx hb (by omega) (by omega) d_Y_nearestAt_12 (by decide) (fun ci => ?_) (fun ci => ?_)
      · exact absurd rfl (hne bi bj hbij hbj (by omega))
      · refine lv_iload_n hx hb d_Y_nearestAt_15 rfl (lv_at hl 2 rfl) ?_
        refine lv_istore_n (lv' := [(3, .int (nI i)), (0, .ref (q 0)), (1, .int (nI (sw_e fa fb 0 bi m (bj - bi)))), (2, .int (nI i))]) hx hb d_Y_nearestAt_16 rfl hl (by decide) rfl (fun ls hl => ?_)
        have loopJ : ∀ (fuelJ : Nat) (j : Nat) (f : Nat → Int32), j ≤ n + 1 → n + 1 + 1 ≤ j + fuelJ → (i ≤ j) → (∀ i2 j2, i2 ≤ j2 → j2 ≤ n → sw_bf i j i2 j2 → sw_e fa fb 0 i2 m (j2 - i2) ≠ sw_e fa fb 0 bi m (bj - bi)) → ∀ (H : Heap) (locs : List Loc) (ls : Array Slot), WK s dC dI A (YW (nI m) (nI n) fa fb f g1 q cA) H locs → lv_has ls 4 [(0, .ref (q 0)), (1, .int (nI (sw_e fa fb 0 bi m (bj - bi)))), (2, .int (nI i)), (3, .int (nI j))] → W p l e (rm_L 3) s mi args below meth c H locs 0 0 Q (F0 mi 17 ls []) := by
          intro fuelJ
          induction fuelJ with
          | zero => intro j f hle hfu; exact absurd hfu (by omega)
          | succ fuelJ ih_loopJ =>
            intro j f hle hfu hij hne H locs ls h hl
            refine lv_iload_n hx hb d_Y_nearestAt_17 rfl (lv_at hl 3 rfl) ?_
            refine lv_aload_n hx hb d_Y_nearestAt_18 rfl (lv_at hl 0 rfl) ?_
            refine gY_n C h d_Y_nearestAt_19 ?_
            refine nb_gt (tgt := 55) hx hb (by omega) (by omega) d_Y_nearestAt_22 (by decide) (fun cj => ?_) (fun cj => ?_)
            · obtain rfl : j = n + 1 := by omega
              refine ni_iinc (k := 2) (lv' := [(2, .int (nI (i + 1))), (0, .ref (q 0)), (1, .int (nI (sw_e fa fb 0 bi m (bj - bi)))), (3, .int (nI (n + 1)))]) hx hb d_Y_nearestAt_55 hl rfl (by decide) rfl (fun ls hl => ?_)
              refine lv_goto (tgt := 7) hx hb d_Y_nearestAt_58 (by decide) ?_
              exact ih_loopI (i + 1) f (by omega) (by omega) (fun i2 j2 g1 g2 g3 => hne i2 j2 g1 g2 (by omega)) _ _ _ h (lv_sub hl [1, 2, 0] rfl)
            · refine lv_aload_n hx hb d_Y_nearestAt_25 rfl (lv_at hl 0 rfl) ?_
              refine lv_iconst (v := nI 0) hx hb d_Y_nearestAt_26 (by decide) ?_
              refine lv_aload_n hx hb d_Y_nearestAt_27 rfl (lv_at hl 0 rfl) ?_
              refine gY_m C h d_Y_nearestAt_28 ?_
              refine lv_iload_n hx hb d_Y_nearestAt_31 rfl (lv_at hl 2 rfl) ?_
              refine lv_iload_n hx hb d_Y_nearestAt_32 rfl (lv_at hl 3 rfl) ?_
              refine lv_iload_n hx hb d_Y_nearestAt_33 rfl (lv_at hl 2 rfl) ?_
              refine ni_sub hx hb (by omega) d_Y_nearestAt_34 ?_
              refine ck_i (n := 4) (ci := 1) (rest := []) C h (c_Y_changes (a := 0) (k := m) (t := i) (j := j - i) (by omega) (by omega)) rfl rfl (tb_goodIn tl_Y_45 ti_Y_changes ts_Y_changes tn_Y tc_Y_changes) (by decide +kernel) ⟨Nat.le_of_ble_eq_true rfl, Nat.le_of_ble_eq_true rfl⟩ rfl hl rfl (Nat.le_of_ble_eq_true rfl) ⟨Nat.zero_le _, Nat.zero_le _⟩ d_Y_nearestAt_35 (fun r2 f2 H locs h2 h => ?_)
              subst h2
              have hle2 := sw_e_le fa fb 0 i m (j - i)
              refine lv_iload_n hx hb d_Y_nearestAt_38 rfl (lv_at hl 1 rfl) ?_
              refine nb_ne (tgt := 49) hx hb (by omega) (by omega) d_Y_nearestAt_39 (by decide) (fun ce => ?_) (fun ce => ?_)
              · refine ni_iinc (k := 3) (lv' := [(3, .int (nI (j + 1))), (0, .ref (q 0)), (1, .int (nI (sw_e fa fb 0 bi m (bj - bi)))), (2, .int (nI i))]) hx hb d_Y_nearestAt_49 hl rfl (by decide) rfl (fun ls hl => ?_)
                refine lv_goto (tgt := 17) hx hb d_Y_nearestAt_52 (by decide) ?_
                exact ih_loopJ (j + 1) f2 (by omega) (by omega) (by omega) (fun i2 j2 g1 g2 g3 => by
                      by_cases q9 : i2 = i ∧ j2 = j
                      · rw [q9.1, q9.2]; exact ce
                      · exact hne i2 j2 g1 g2 (by omega)) _ _ _ h (lv_sub hl [1, 2, 3, 0] rfl)
              · refine lv_bipush (v := nI 16) hx hb d_Y_nearestAt_42 (by decide) ?_
                refine lv_iload_n hx hb d_Y_nearestAt_44 rfl (lv_at hl 2 rfl) ?_
                refine ni_mul hx hb d_Y_nearestAt_45 ?_
                refine lv_iload_n hx hb d_Y_nearestAt_46 rfl (lv_at hl 3 rfl) ?_
                refine ni_add hx hb d_Y_nearestAt_47 ?_
                exact hret (nI ((16 * i) + j)) (f2, g1) _ _ _ _ d_Y_nearestAt_48 (sw_at_min (g := (fun i j => sw_e fa fb 0 i m (j - i))) hij (by omega) (fun i2 j2 g1 g2 => by show sw_e fa fb 0 i m (j - i) ≤ _; rw [ce]; exact hmin i2 j2 g1 g2) (fun i2 j2 g1 g2 g3 => by show _ ≠ sw_e fa fb 0 i m (j - i); rw [ce]; exact hne i2 j2 g1 g2 g3)) h
        exact loopJ (n + 1 + 1) i f (by omega) (by omega) (Nat.le_refl _) (hne) _ _ _ h (lv_sub hl [1, 2, 3, 0] rfl)
  exact loopI (n + 1 + 1) 0 f1 (by omega) (by omega) (fun i2 j2 g1 g2 g3 => absurd g3 (by omega)) _ _ _ h (lv_sub hl [2, 1, 0] rfl)

set_option maxHeartbeats 4000000 in
set_option maxRecDepth 100000 in
theorem c_Y_widest {fa fb ft fo : Nat → Int32} {m n : Nat} {x : Int32} (hm : m ≤ 10) (hn : n ≤ 14) : MKi 2 y_Y_widest b_Y_widest 5 (some .int) [.int x] (YW (nI m) (nI n) fa fb ft fo) (fun r (_ : ((Nat → Int32) × (Nat → Int32))) => r = an_widest m n fa fb x) (fun u : ((Nat → Int32) × (Nat → Int32)) => YW (nI m) (nI n) fa fb u.1 u.2) := by
  refine ok_i (own := R_Y) (by decide) rfl (fun _ => Nat.le_of_ble_eq_true rfl) ?_
  intro l dC dI q cA p e s mi args below meth c A ls Q C hret h hl
  have hx := C.1
  have hb := C.2.1
  have hl : lv_has ls 5 [(0, .ref (q 0)), (1, .int x)] := hl
  refine lv_iload_n hx hb d_Y_widest_0 rfl (lv_at hl 1 rfl) ?_
  refine lv_if_lt (tgt := 12) hx hb d_Y_widest_1 (by decide) (fun c1 => ?_) (fun c1 => ?_)
  · refine lv_bipush (v := (-4)) hx hb d_Y_widest_12 (by decide) ?_
    exact hret (-4) (ft, fo) _ _ _ _ d_Y_widest_14 (by unfold an_widest; rw [if_pos (Or.inl c1)]) h
  · refine lv_iload_n hx hb d_Y_widest_4 rfl (lv_at hl 1 rfl) ?_
    refine lv_aload_n hx hb d_Y_widest_5 rfl (lv_at hl 0 rfl) ?_
    refine gY_n C h d_Y_widest_6 ?_
    refine lv_icmp_le (tgt := 15) hx hb d_Y_widest_9 (by decide) (fun c2 => ?_) (fun c2 => ?_)
    · have hgg : ¬ sw_bw x n := fun z => z.elim c1 (sw_nlt.mpr c2)
      obtain ⟨w, hw, rfl⟩ := sw_goodN (by omega) c1 (sw_nlt.mpr c2)
      refine lv_iconst (v := nI 0) hx hb d_Y_widest_15 (by decide) ?_
      refine lv_istore_n (lv' := [(2, .int (nI 0)), (0, .ref (q 0)), (1, .int (nI w))]) hx hb d_Y_widest_16 rfl hl (by decide) rfl (fun ls hl => ?_)
      refine lv_iconst (v := nI 0) hx hb d_Y_widest_17 (by decide) ?_
      refine lv_istore_n (lv' := [(3, .int (nI 0)), (2, .int (nI 0)), (0, .ref (q 0)), (1, .int (nI w))]) hx hb d_Y_widest_18 rfl hl (by decide) rfl (fun ls hl => ?_)
      have loop : ∀ (fuel : Nat) (i b : Nat) (f : Nat → Int32), i ≤ n - w + 1 → n - w + 1 + 1 ≤ i + fuel → (b = sw_best (fun i => sw_d fa fb 0 i m w) i) → ∀ (H : Heap) (locs : List Loc) (ls : Array Slot), WK s dC dI A (YW (nI m) (nI n) fa fb f fo q cA) H locs → lv_has ls 5 [(0, .ref (q 0)), (1, .int (nI w)), (2, .int (nI b)), (3, .int (nI i))] → W p l e (rm_L 2) s mi args below meth c H locs 0 0 Q (F0 mi 19 ls []) := by
        intro fuel
        induction fuel with
        | zero => intro i b f hle hfu; exact absurd hfu (by omega)
        | succ fuel ih_loop =>
          intro i b f hle hfu hb1 H locs ls h hl
          have hb2 : b ≤ m := by rw [hb1]; exact sw_best_le (fun i => sw_d_le fa fb 0 i m w) i
          refine lv_iload_n hx hb d_Y_widest_19 rfl (lv_at hl 3 rfl) ?_
          refine lv_iload_n hx hb d_Y_widest_20 rfl (lv_at hl 1 rfl) ?_
          refine ni_add hx hb d_Y_widest_21 ?_
          refine lv_aload_n hx hb d_Y_widest_22 rfl (lv_at hl 0 rfl) ?_
          refine gY_n C h d_Y_widest_23 ?_
          refine nb_gt (tgt := 61) hx hb (by omega) (by omega) d_Y_widest_26 (by decide) (fun ci => ?_) (fun ci => ?_)
          · obtain rfl : i = n - w + 1 := by omega
            refine lv_iload_n hx hb d_Y_widest_61 rfl (lv_at hl 2 rfl) ?_
            exact hret (nI b) (f, fo) _ _ _ _ d_Y_widest_62 (by rw [hb1]; unfold an_widest; rw [if_neg hgg, iN_n (by omega)]; rfl) h
          · refine lv_aload_n hx hb d_Y_widest_29 rfl (lv_at hl 0 rfl) ?_
            refine lv_iconst (v := nI 0) hx hb d_Y_widest_30 (by decide) ?_
            refine lv_aload_n hx hb d_Y_widest_31 rfl (lv_at hl 0 rfl) ?_
            refine gY_m C h d_Y_widest_32 ?_
            refine lv_iload_n hx hb d_Y_widest_35 rfl (lv_at hl 3 rfl) ?_
            refine lv_iload_n hx hb d_Y_widest_36 rfl (lv_at hl 1 rfl) ?_
            refine ck_i (n := 4) (ci := 1) (rest := []) C h (c_Y_common (a := 0) (k := m) (t := i) (j := w) hn (by omega) (by omega) (by omega) (fun _ => by omega)) rfl rfl (tb_goodIn tl_Y_41 ti_Y_common ts_Y_common tn_Y tc_Y_common) (by decide +kernel) ⟨Nat.le_of_ble_eq_true rfl, Nat.le_of_ble_eq_true rfl⟩ rfl hl rfl (Nat.le_of_ble_eq_true rfl) ⟨Nat.zero_le _, Nat.zero_le _⟩ d_Y_widest_37 (fun r2 f2 H locs h2 h => ?_)
            rw [sw_d_mod _ _ _ _ _ _ _ (by omega)] at h2
            subst h2
            have hd := sw_d_le fa fb 0 i m w
            refine lv_istore (lv' := [(4, .int (nI (sw_d fa fb 0 i m w))), (0, .ref (q 0)), (1, .int (nI w)), (2, .int (nI b)), (3, .int (nI i))]) hx hb d_Y_widest_40 hl (by decide) rfl (fun ls hl => ?_)
            refine lv_iload hx hb d_Y_widest_42 (lv_at hl 0 rfl) ?_
            refine lv_iload_n hx hb d_Y_widest_44 rfl (lv_at hl 3 rfl) ?_
            refine nb_le (tgt := 53) hx hb (by omega) (by omega) d_Y_widest_45 (by decide) (fun c3 => ?_) (fun c3 => ?_)
            · refine lv_iload_n hx hb d_Y_widest_53 rfl (lv_at hl 3 rfl) ?_
              refine lv_istore_n (lv' := [(2, .int (nI b)), (4, .int (nI (sw_d fa fb 0 i m w))), (0, .ref (q 0)), (1, .int (nI w)), (3, .int (nI i))]) hx hb d_Y_widest_54 rfl hl (by decide) rfl (fun ls hl => ?_)
              refine ni_iinc (k := 4) (lv' := [(3, .int (nI (i + 1))), (2, .int (nI b)), (4, .int (nI (sw_d fa fb 0 i m w))), (0, .ref (q 0)), (1, .int (nI w))]) hx hb d_Y_widest_55 hl rfl (by decide) rfl (fun ls hl => ?_)
              refine lv_goto (tgt := 19) hx hb d_Y_widest_58 (by decide) ?_
              exact ih_loop (i + 1) b f2 (by omega) (by omega) (by show _ = max (sw_best _ i) _; rw [← hb1]; exact sw_max_f c3) _ _ _ h (lv_sub hl [3, 4, 1, 0] rfl)
            · refine lv_iload hx hb d_Y_widest_48 (lv_at hl 0 rfl) ?_
              refine lv_goto (tgt := 54) hx hb d_Y_widest_50 (by decide) ?_
              refine lv_istore_n (lv' := [(2, .int (nI (sw_d fa fb 0 i m w))), (4, .int (nI (sw_d fa fb 0 i m w))), (0, .ref (q 0)), (1, .int (nI w)), (3, .int (nI i))]) hx hb d_Y_widest_54 rfl hl (by decide) rfl (fun ls hl => ?_)
              refine ni_iinc (k := 4) (lv' := [(3, .int (nI (i + 1))), (2, .int (nI (sw_d fa fb 0 i m w))), (4, .int (nI (sw_d fa fb 0 i m w))), (0, .ref (q 0)), (1, .int (nI w))]) hx hb d_Y_widest_55 hl rfl (by decide) rfl (fun ls hl => ?_)
              refine lv_goto (tgt := 19) hx hb d_Y_widest_58 (by decide) ?_
              exact ih_loop (i + 1) (sw_d fa fb 0 i m w) f2 (by omega) (by omega) (by show _ = max (sw_best _ i) _; rw [← hb1]; exact sw_max_t c3) _ _ _ h (lv_sub hl [3, 4, 1, 0] rfl)
      exact loop (n - w + 1 + 1) 0 0 ft (by omega) (by omega) (rfl) _ _ _ h (lv_sub hl [2, 3, 1, 0] rfl)
    · refine lv_bipush (v := (-4)) hx hb d_Y_widest_12 (by decide) ?_
      exact hret (-4) (ft, fo) _ _ _ _ d_Y_widest_14 (by unfold an_widest; rw [if_pos (Or.inr (sw_nle.mp c2))]) h

theorem sw_k1 {k : Int32} (h : ¬ nI 1 ≤ k) : k ≤ nI 0 := by
  rw [sw_le] at *
  have e1 : (nI 1).toInt = 1 := by decide
  have e0 : (nI 0).toInt = 0 := by decide
  omega
theorem sw_k2 {k : Int32} (h : nI 1 ≤ k) : ¬ k ≤ nI 0 := by
  rw [sw_le] at *
  have e1 : (nI 1).toInt = 1 := by decide
  have e0 : (nI 0).toInt = 0 := by decide
  omega

set_option maxHeartbeats 4000000 in
set_option maxRecDepth 100000 in
theorem c_Y_shortest {fa fb ft fo : Nat → Int32} {m n : Nat} {k : Int32} (hm : m ≤ 10) (hn : n ≤ 14) : MKi 3 y_Y_shortest b_Y_shortest 3 (some .int) [.int k] (YW (nI m) (nI n) fa fb ft fo) (fun r (_ : ((Nat → Int32) × (Nat → Int32))) => an_isShort m n fa fb k r) (fun u : ((Nat → Int32) × (Nat → Int32)) => YW (nI m) (nI n) fa fb u.1 u.2) := by
  refine ok_i (own := R_Y) (by decide) rfl (fun _ => Nat.le_of_ble_eq_true rfl) ?_
  intro l dC dI q cA p e s mi args below meth c A ls Q C hret h hl
  have hx := C.1
  have hb := C.2.1
  have hl : lv_has ls 3 [(0, .ref (q 0)), (1, .int k)] := hl
  refine lv_iload_n hx hb d_Y_shortest_0 rfl (lv_at hl 1 rfl) ?_
  refine lv_iconst (v := nI 1) hx hb d_Y_shortest_1 (by decide) ?_
  refine lv_icmp_ge (tgt := 7) hx hb d_Y_shortest_2 (by decide) (fun c1 => ?_) (fun c1 => ?_)
  · refine lv_iconst (v := nI 1) hx hb d_Y_shortest_7 (by decide) ?_
    refine lv_istore_n (lv' := [(2, .int (nI 1)), (0, .ref (q 0)), (1, .int k)]) hx hb d_Y_shortest_8 rfl hl (by decide) rfl (fun ls hl => ?_)
    have loop : ∀ (fuel : Nat) (w : Nat) (f g : Nat → Int32), w ≤ n + 1 → n + 1 + 1 ≤ w + fuel → (0 < w) → (∀ w', w' < w → ¬ k ≤ nI (sw_wid fa fb m n w')) → ∀ (H : Heap) (locs : List Loc) (ls : Array Slot), WK s dC dI A (YW (nI m) (nI n) fa fb f g q cA) H locs → lv_has ls 3 [(0, .ref (q 0)), (1, .int k), (2, .int (nI w))] → W p l e (rm_L 3) s mi args below meth c H locs 0 0 Q (F0 mi 9 ls []) := by
      intro fuel
      induction fuel with
      | zero => intro w f g hle hfu; exact absurd hfu (by omega)
      | succ fuel ih_loop =>
        intro w f g hle hfu hw0 hno H locs ls h hl
        refine lv_iload_n hx hb d_Y_shortest_9 rfl (lv_at hl 2 rfl) ?_
        refine lv_aload_n hx hb d_Y_shortest_10 rfl (lv_at hl 0 rfl) ?_
        refine gY_n C h d_Y_shortest_11 ?_
        refine nb_gt (tgt := 34) hx hb (by omega) (by omega) d_Y_shortest_14 (by decide) (fun ci => ?_) (fun ci => ?_)
        · refine lv_bipush (v := (-4)) hx hb d_Y_shortest_34 (by decide) ?_
          exact hret (-4) (f, g) _ _ _ _ d_Y_shortest_36 (Or.inr ⟨rfl, fun w2 h2 => hno w2 (by omega)⟩) h
        · refine lv_aload_n hx hb d_Y_shortest_17 rfl (lv_at hl 0 rfl) ?_
          refine lv_iload_n hx hb d_Y_shortest_18 rfl (lv_at hl 2 rfl) ?_
          refine ck_i (n := 1) (ci := 1) (rest := []) C h (c_Y_widest (x := nI w) hm hn) rfl rfl (tb_goodIn tl_Y_52 ti_Y_widest ts_Y_widest tn_Y tc_Y_widest) (by decide +kernel) ⟨Nat.le_of_ble_eq_true rfl, Nat.le_of_ble_eq_true rfl⟩ rfl hl rfl (Nat.le_of_ble_eq_true rfl) ⟨Nat.zero_le _, Nat.zero_le _⟩ d_Y_shortest_19 (fun r f3 H locs h2 h => ?_)
          obtain ⟨f3, g3⟩ := f3
          have hgg : ¬ sw_bw (nI w) n := fun z => z.elim (nI_pos (by omega)) (nI_nlt (by omega) (by omega))
          unfold an_widest at h2
          rw [if_neg hgg, iN_n (by omega)] at h2
          refine lv_iload_n hx hb d_Y_shortest_22 rfl (lv_at hl 1 rfl) ?_
          refine lv_icmp_lt (tgt := 28) hx hb d_Y_shortest_23 (by decide) (fun c2 => ?_) (fun c2 => ?_)
          · rw [h2] at c2
            refine ni_iinc (k := 2) (lv' := [(2, .int (nI (w + 1))), (0, .ref (q 0)), (1, .int k)]) hx hb d_Y_shortest_28 hl rfl (by decide) rfl (fun ls hl => ?_)
            refine lv_goto (tgt := 9) hx hb d_Y_shortest_31 (by decide) ?_
            exact ih_loop (w + 1) f3 g3 (by omega) (by omega) (by omega) (fun w2 hw2 => by
                  by_cases q9 : w2 = w
                  · rw [q9]; exact sw_nle.mpr c2
                  · exact hno w2 (by omega)) _ _ _ h (lv_sub hl [1, 2, 0] rfl)
          · rw [h2] at c2
            refine lv_iload_n hx hb d_Y_shortest_26 rfl (lv_at hl 2 rfl) ?_
            exact hret (nI w) (f3, g3) _ _ _ _ d_Y_shortest_27 (Or.inl ⟨w, by omega, rfl, sw_nlt.mp c2, hno⟩) h
    have hk0 : ¬ k ≤ nI (sw_wid fa fb m n 0) := by rw [sw_wid_0]; exact sw_k2 c1
    exact loop (n + 1) 1 ft fo (by omega) (by omega) (by decide) (fun w2 h9 => by rw [show w2 = 0 by omega]; exact hk0) _ _ _ h (lv_sub hl [1, 2, 0] rfl)
  · refine lv_iconst (v := nI 0) hx hb d_Y_shortest_5 (by decide) ?_
    exact hret (nI 0) (ft, fo) _ _ _ _ d_Y_shortest_6 (Or.inl ⟨0, Nat.zero_le n, rfl, by rw [sw_wid_0]; exact sw_k1 c1, fun w2 h2 => absurd h2 (Nat.not_lt_zero w2)⟩) h

set_option maxHeartbeats 4000000 in
set_option maxRecDepth 100000 in
theorem c_Y_rotated {fa fb ft fo : Nat → Int32} {m n : Nat} (hm : m ≤ 10) (hn : n ≤ 14) : MKi 2 y_Y_rotated b_Y_rotated 4 (some .int) [] (YW (nI m) (nI n) fa fb ft fo) (fun r (_ : ((Nat → Int32) × (Nat → Int32))) => r = an_rotated m n fa fb) (fun u : ((Nat → Int32) × (Nat → Int32)) => YW (nI m) (nI n) fa fb u.1 u.2) := by
  refine ok_i (own := R_Y) (by decide) rfl (fun _ => Nat.le_of_ble_eq_true rfl) ?_
  intro l dC dI q cA p e s mi args below meth c A ls Q C hret h hl
  have hx := C.1
  have hb := C.2.1
  have hl : lv_has ls 4 [(0, .ref (q 0))] := hl
  refine lv_iconst (v := nI 0) hx hb d_Y_rotated_0 (by decide) ?_
  refine lv_istore_n (lv' := [(1, .int (nI 0)), (0, .ref (q 0))]) hx hb d_Y_rotated_1 rfl hl (by decide) rfl (fun ls hl => ?_)
  refine lv_iconst (v := nI 0) hx hb d_Y_rotated_2 (by decide) ?_
  refine lv_istore_n (lv' := [(2, .int (nI 0)), (1, .int (nI 0)), (0, .ref (q 0))]) hx hb d_Y_rotated_3 rfl hl (by decide) rfl (fun ls hl => ?_)
  have loop : ∀ (fuel : Nat) (i b : Nat) (f : Nat → Int32), i ≤ n → n + 1 ≤ i + fuel → (b = sw_best (fun i => sw_d fa (fun j => fb (j % n)) 0 i m n) i) → ∀ (H : Heap) (locs : List Loc) (ls : Array Slot), WK s dC dI A (YW (nI m) (nI n) fa fb f fo q cA) H locs → lv_has ls 4 [(0, .ref (q 0)), (1, .int (nI b)), (2, .int (nI i))] → W p l e (rm_L 2) s mi args below meth c H locs 0 0 Q (F0 mi 4 ls []) := by
    intro fuel
    induction fuel with
    | zero => intro i b f hle hfu; exact absurd hfu (by omega)
    | succ fuel ih_loop =>
      intro i b f hle hfu hb1 H locs ls h hl
      have hb2 : b ≤ m := by rw [hb1]; exact sw_best_le (fun i => sw_d_le fa (fun j => fb (j % n)) 0 i m n) i
      refine lv_iload_n hx hb d_Y_rotated_4 rfl (lv_at hl 2 rfl) ?_
      refine lv_aload_n hx hb d_Y_rotated_5 rfl (lv_at hl 0 rfl) ?_
      refine gY_n C h d_Y_rotated_6 ?_
      refine nb_ge (tgt := 44) hx hb (by omega) (by omega) d_Y_rotated_9 (by decide) (fun ci => ?_) (fun ci => ?_)
      · obtain rfl : n = i := by omega
        refine lv_iload_n hx hb d_Y_rotated_44 rfl (lv_at hl 1 rfl) ?_
        exact hret (nI b) (f, fo) _ _ _ _ d_Y_rotated_45 (by rw [hb1]; rfl) h
      · refine lv_aload_n hx hb d_Y_rotated_12 rfl (lv_at hl 0 rfl) ?_
        refine lv_iconst (v := nI 0) hx hb d_Y_rotated_13 (by decide) ?_
        refine lv_aload_n hx hb d_Y_rotated_14 rfl (lv_at hl 0 rfl) ?_
        refine gY_m C h d_Y_rotated_15 ?_
        refine lv_iload_n hx hb d_Y_rotated_18 rfl (lv_at hl 2 rfl) ?_
        refine lv_aload_n hx hb d_Y_rotated_19 rfl (lv_at hl 0 rfl) ?_
        refine gY_n C h d_Y_rotated_20 ?_
        refine ck_i (n := 4) (ci := 1) (rest := []) C h (c_Y_common (a := 0) (k := m) (t := i) (j := n) hn (by omega) (by omega) (by omega) (fun _ => by omega)) rfl rfl (tb_goodIn tl_Y_41 ti_Y_common ts_Y_common tn_Y tc_Y_common) (by decide +kernel) ⟨Nat.le_of_ble_eq_true rfl, Nat.le_of_ble_eq_true rfl⟩ rfl hl rfl (Nat.le_of_ble_eq_true rfl) ⟨Nat.zero_le _, Nat.zero_le _⟩ d_Y_rotated_23 (fun r2 f2 H locs h2 h => ?_)
        subst h2
        have hd := sw_d_le fa (fun j => fb (j % n)) 0 i m n
        refine lv_istore_n (lv' := [(3, .int (nI (sw_d fa (fun j => fb (j % n)) 0 i m n))), (0, .ref (q 0)), (1, .int (nI b)), (2, .int (nI i))]) hx hb d_Y_rotated_26 rfl hl (by decide) rfl (fun ls hl => ?_)
        refine lv_iload_n hx hb d_Y_rotated_27 rfl (lv_at hl 0 rfl) ?_
        refine lv_iload_n hx hb d_Y_rotated_28 rfl (lv_at hl 2 rfl) ?_
        refine nb_le (tgt := 36) hx hb (by omega) (by omega) d_Y_rotated_29 (by decide) (fun c3 => ?_) (fun c3 => ?_)
        · refine lv_iload_n hx hb d_Y_rotated_36 rfl (lv_at hl 2 rfl) ?_
          refine lv_istore_n (lv' := [(1, .int (nI b)), (3, .int (nI (sw_d fa (fun j => fb (j % n)) 0 i m n))), (0, .ref (q 0)), (2, .int (nI i))]) hx hb d_Y_rotated_37 rfl hl (by decide) rfl (fun ls hl => ?_)
          refine ni_iinc (k := 3) (lv' := [(2, .int (nI (i + 1))), (1, .int (nI b)), (3, .int (nI (sw_d fa (fun j => fb (j % n)) 0 i m n))), (0, .ref (q 0))]) hx hb d_Y_rotated_38 hl rfl (by decide) rfl (fun ls hl => ?_)
          refine lv_goto (tgt := 4) hx hb d_Y_rotated_41 (by decide) ?_
          exact ih_loop (i + 1) b f2 (by omega) (by omega) (by show _ = max (sw_best _ i) _; rw [← hb1]; exact sw_max_f c3) _ _ _ h (lv_sub hl [3, 1, 0] rfl)
        · refine lv_iload_n hx hb d_Y_rotated_32 rfl (lv_at hl 0 rfl) ?_
          refine lv_goto (tgt := 37) hx hb d_Y_rotated_33 (by decide) ?_
          refine lv_istore_n (lv' := [(1, .int (nI (sw_d fa (fun j => fb (j % n)) 0 i m n))), (3, .int (nI (sw_d fa (fun j => fb (j % n)) 0 i m n))), (0, .ref (q 0)), (2, .int (nI i))]) hx hb d_Y_rotated_37 rfl hl (by decide) rfl (fun ls hl => ?_)
          refine ni_iinc (k := 3) (lv' := [(2, .int (nI (i + 1))), (1, .int (nI (sw_d fa (fun j => fb (j % n)) 0 i m n))), (3, .int (nI (sw_d fa (fun j => fb (j % n)) 0 i m n))), (0, .ref (q 0))]) hx hb d_Y_rotated_38 hl rfl (by decide) rfl (fun ls hl => ?_)
          refine lv_goto (tgt := 4) hx hb d_Y_rotated_41 (by decide) ?_
          exact ih_loop (i + 1) (sw_d fa (fun j => fb (j % n)) 0 i m n) f2 (by omega) (by omega) (by show _ = max (sw_best _ i) _; rw [← hb1]; exact sw_max_t c3) _ _ _ h (lv_sub hl [3, 1, 0] rfl)
  exact loop (n + 1) 0 0 ft (by omega) (by omega) (rfl) _ _ _ h (lv_sub hl [2, 1, 0] rfl)

set_option maxHeartbeats 4000000 in
set_option maxRecDepth 100000 in
theorem c_Y_isTight {mv nv : Int32} {fa fb ft fo : Nat → Int32} {G : Nat → Nat → Nat} {i j n : Nat} (hn : n ≤ 14) (hG : ∀ k l, G k l < 1000) (hof : ∀ k l, k ≤ l → l ≤ n → fo (k * 15 + l) = nI (G k l)) (hij : i ≤ j) (hj : j ≤ n) : MKi 0 y_Y_isTight b_Y_isTight 6 (some .boolean) [.int (nI i), .int (nI j)] (YW mv nv fa fb ft fo) (fun r (_ : Unit) => sw_is (sw_ti G i j) r) (fun (_ : Unit) => YW mv nv fa fb ft fo) := by
  refine ok_z (own := R_Y) (by decide) rfl (fun _ => Nat.le_of_ble_eq_true rfl) ?_
  intro l dC dI q cA p e s mi args below meth c A ls Q C hret h hl
  have hx := C.1
  have hb := C.2.1
  have hl : lv_has ls 6 [(0, .ref (q 0)), (1, .int (nI i)), (2, .int (nI j))] := hl
  refine lv_iload_n hx hb d_Y_isTight_0 rfl (lv_at hl 1 rfl) ?_
  refine lv_istore_n (lv' := [(3, .int (nI i)), (0, .ref (q 0)), (1, .int (nI i)), (2, .int (nI j))]) hx hb d_Y_isTight_1 rfl hl (by decide) rfl (fun ls hl => ?_)
  have loopK : ∀ (fuel : Nat) (k : Nat), k ≤ j + 1 → j + 1 + 1 ≤ k + fuel → (i ≤ k) → (sw_ts G i j k k) → ∀ (H : Heap) (locs : List Loc) (ls : Array Slot), WK s dC dI A (YW mv nv fa fb ft fo q cA) H locs → lv_has ls 6 [(0, .ref (q 0)), (1, .int (nI i)), (2, .int (nI j)), (3, .int (nI k))] → W p l e (rm_L 0) s mi args below meth c H locs 0 0 Q (F0 mi 2 ls []) := by
    intro fuel
    induction fuel with
    | zero => intro k hle hfu; exact absurd hfu (by omega)
    | succ fuel ih_loopK =>
      intro k hle hfu hik hts2 H locs ls h hl
      refine lv_iload_n hx hb d_Y_isTight_2 rfl (lv_at hl 3 rfl) ?_
      refine lv_iload_n hx hb d_Y_isTight_3 rfl (lv_at hl 2 rfl) ?_
      refine nb_gt (tgt := 79) hx hb (by omega) (by omega) d_Y_isTight_4 (by decide) (fun ck => ?_) (fun ck => ?_)
      · obtain rfl : k = j + 1 := by omega
        refine lv_iconst (v := nI 1) hx hb d_Y_isTight_79 (by decide) ?_
        exact hret (nI 1) () _ _ _ _ d_Y_isTight_80 (rfl) (Or.inl ⟨sw_ts_e hts2, rfl⟩) h
      · refine lv_iload_n hx hb d_Y_isTight_7 rfl (lv_at hl 3 rfl) ?_
        refine lv_istore (lv' := [(4, .int (nI k)), (0, .ref (q 0)), (1, .int (nI i)), (2, .int (nI j)), (3, .int (nI k))]) hx hb d_Y_isTight_8 hl (by decide) rfl (fun ls hl => ?_)
        have loopL : ∀ (fuelL : Nat) (z : Nat), z ≤ j + 1 → j + 1 + 1 ≤ z + fuelL → (k ≤ z) → (sw_ts G i j k z) → ∀ (H : Heap) (locs : List Loc) (ls : Array Slot), WK s dC dI A (YW mv nv fa fb ft fo q cA) H locs → lv_has ls 6 [(0, .ref (q 0)), (1, .int (nI i)), (2, .int (nI j)), (3, .int (nI k)), (4, .int (nI z))] → W p l e (rm_L 0) s mi args below meth c H locs 0 0 Q (F0 mi 10 ls []) := by
          intro fuelL
          induction fuelL with
          | zero => intro z hle hfu; exact absurd hfu (by omega)
          | succ fuelL ih_loopL =>
            intro z hle hfu hkz hts2 H locs ls h hl
            have hG1 := hG k z
            have hG2 := hG i j
            refine lv_iload hx hb d_Y_isTight_10 (lv_at hl 4 rfl) ?_
            refine lv_iload_n hx hb d_Y_isTight_12 rfl (lv_at hl 2 rfl) ?_
            refine nb_gt (tgt := 73) hx hb (by omega) (by omega) d_Y_isTight_13 (by decide) (fun cz => ?_) (fun cz => ?_)
            · obtain rfl : z = j + 1 := by omega
              refine ni_iinc (k := 3) (lv' := [(3, .int (nI (k + 1))), (0, .ref (q 0)), (1, .int (nI i)), (2, .int (nI j)), (4, .int (nI (j + 1)))]) hx hb d_Y_isTight_73 hl rfl (by decide) rfl (fun ls hl => ?_)
              refine lv_goto (tgt := 2) hx hb d_Y_isTight_76 (by decide) ?_
              exact ih_loopK (k + 1) (by omega) (by omega) (by omega) (sw_ts_r hts2) _ _ _ h (lv_sub hl [1, 2, 3, 0] rfl)
            · have other : (k ≠ i ∨ z ≠ j) → ∀ (H : Heap) (locs : List Loc) (ls : Array Slot), WK s dC dI A (YW mv nv fa fb ft fo q cA) H locs → lv_has ls 6 [(0, .ref (q 0)), (1, .int (nI i)), (2, .int (nI j)), (3, .int (nI k)), (4, .int (nI z)), (5, .int (nI 1))] → W p l e (rm_L 0) s mi args below meth c H locs 0 0 Q (F0 mi 34 ls []) := by
                intro ho H locs ls h hl
                refine lv_iload hx hb d_Y_isTight_34 (lv_at hl 5 rfl) ?_
                refine nz_eq (tgt := 67) hx hb (by omega) d_Y_isTight_36 (by decide) (fun c9 => ?_) (fun c9 => ?_)
                · exact absurd c9 (by decide)
                · refine lv_aload_n hx hb d_Y_isTight_39 rfl (lv_at hl 0 rfl) ?_
                  refine gY_of C h d_Y_isTight_40 ?_
                  refine lv_iload_n hx hb d_Y_isTight_43 rfl (lv_at hl 3 rfl) ?_
                  refine lv_bipush (v := nI 15) hx hb d_Y_isTight_44 (by decide) ?_
                  refine ni_mul hx hb d_Y_isTight_46 ?_
                  refine lv_iload hx hb d_Y_isTight_47 (lv_at hl 4 rfl) ?_
                  refine ni_add hx hb d_Y_isTight_49 ?_
                  refine lY_of C h ((k * 15) + z) (by omega) d_Y_isTight_50 ?_
                  refine ni_top (y := nI (G k z)) (hof k z hkz (by omega)) ?_
                  refine lv_aload_n hx hb d_Y_isTight_51 rfl (lv_at hl 0 rfl) ?_
                  refine gY_of C h d_Y_isTight_52 ?_
                  refine lv_iload_n hx hb d_Y_isTight_55 rfl (lv_at hl 1 rfl) ?_
                  refine lv_bipush (v := nI 15) hx hb d_Y_isTight_56 (by decide) ?_
                  refine ni_mul hx hb d_Y_isTight_58 ?_
                  refine lv_iload_n hx hb d_Y_isTight_59 rfl (lv_at hl 2 rfl) ?_
                  refine ni_add hx hb d_Y_isTight_60 ?_
                  refine lY_of C h ((i * 15) + j) (by omega) d_Y_isTight_61 ?_
                  refine ni_top (y := nI (G i j)) (hof i j hij hj) ?_
                  refine nb_lt (tgt := 67) hx hb (by omega) (by omega) d_Y_isTight_62 (by decide) (fun c8 => ?_) (fun c8 => ?_)
                  · refine ni_iinc (k := 4) (lv' := [(4, .int (nI (z + 1))), (0, .ref (q 0)), (1, .int (nI i)), (2, .int (nI j)), (3, .int (nI k)), (5, .int (nI 1))]) hx hb d_Y_isTight_67 hl rfl (by decide) rfl (fun ls hl => ?_)
                    refine lv_goto (tgt := 10) hx hb d_Y_isTight_70 (by decide) ?_
                    exact ih_loopL (z + 1) (by omega) (by omega) (by omega) (sw_ts_s hts2 (fun _ => c8)) _ _ _ h (lv_sub hl [1, 2, 3, 4, 0] rfl)
                  · refine lv_iconst (v := nI 0) hx hb d_Y_isTight_65 (by decide) ?_
                    exact hret (nI 0) () _ _ _ _ d_Y_isTight_66 (rfl) (Or.inr ⟨sw_ts_no hik hkz (by omega) ho c8, rfl⟩) h
              refine lv_iload_n hx hb d_Y_isTight_16 rfl (lv_at hl 3 rfl) ?_
              refine lv_iload_n hx hb d_Y_isTight_17 rfl (lv_at hl 1 rfl) ?_
              refine nb_ne (tgt := 27) hx hb (by omega) (by omega) d_Y_isTight_18 (by decide) (fun c1 => ?_) (fun c1 => ?_)
              · refine lv_iconst (v := nI 1) hx hb d_Y_isTight_27 (by decide) ?_
                refine lv_goto (tgt := 32) hx hb d_Y_isTight_28 (by decide) ?_
                refine lv_istore (lv' := [(5, .int (nI 1)), (0, .ref (q 0)), (1, .int (nI i)), (2, .int (nI j)), (3, .int (nI k)), (4, .int (nI z))]) hx hb d_Y_isTight_32 hl (by decide) rfl (fun ls hl => ?_)
                exact other  (Or.inl c1) _ _ _ h (lv_sub hl [1, 2, 3, 4, 5, 0] rfl)
              · refine lv_iload hx hb d_Y_isTight_21 (lv_at hl 4 rfl) ?_
                refine lv_iload_n hx hb d_Y_isTight_23 rfl (lv_at hl 2 rfl) ?_
                refine nb_eq (tgt := 31) hx hb (by omega) (by omega) d_Y_isTight_24 (by decide) (fun c2 => ?_) (fun c2 => ?_)
                · refine lv_iconst (v := nI 0) hx hb d_Y_isTight_31 (by decide) ?_
                  refine lv_istore (lv' := [(5, .int (nI 0)), (0, .ref (q 0)), (1, .int (nI i)), (2, .int (nI j)), (3, .int (nI k)), (4, .int (nI z))]) hx hb d_Y_isTight_32 hl (by decide) rfl (fun ls hl => ?_)
                  refine lv_iload hx hb d_Y_isTight_34 (lv_at hl 0 rfl) ?_
                  refine nz_eq (tgt := 67) hx hb (by omega) d_Y_isTight_36 (by decide) (fun c9 => ?_) (fun c9 => ?_)
                  · refine ni_iinc (k := 5) (lv' := [(4, .int (nI (z + 1))), (5, .int (nI 0)), (0, .ref (q 0)), (1, .int (nI i)), (2, .int (nI j)), (3, .int (nI k))]) hx hb d_Y_isTight_67 hl rfl (by decide) rfl (fun ls hl => ?_)
                    refine lv_goto (tgt := 10) hx hb d_Y_isTight_70 (by decide) ?_
                    exact ih_loopL (z + 1) (by omega) (by omega) (by omega) (sw_ts_s hts2 (fun q9 => absurd q9 (by omega))) _ _ _ h (lv_sub hl [2, 3, 4, 5, 0] rfl)
                  · exact absurd c9 (by decide)
                · refine lv_iconst (v := nI 1) hx hb d_Y_isTight_27 (by decide) ?_
                  refine lv_goto (tgt := 32) hx hb d_Y_isTight_28 (by decide) ?_
                  refine lv_istore (lv' := [(5, .int (nI 1)), (0, .ref (q 0)), (1, .int (nI i)), (2, .int (nI j)), (3, .int (nI k)), (4, .int (nI z))]) hx hb d_Y_isTight_32 hl (by decide) rfl (fun ls hl => ?_)
                  exact other  (Or.inr c2) _ _ _ h (lv_sub hl [1, 2, 3, 4, 5, 0] rfl)
        exact loopL (j + 1 + 1) k (by omega) (by omega) (Nat.le_refl _) (hts2) _ _ _ h (lv_sub hl [1, 2, 3, 4, 0] rfl)
  exact loopK (j + 1 + 1) i (by omega) (by omega) (Nat.le_refl _) (sw_ts_0 _ _ _) _ _ _ h (lv_sub hl [1, 2, 3, 0] rfl)

set_option maxHeartbeats 4000000 in
set_option maxRecDepth 100000 in
theorem c_Y_tight {fa fb ft fo : Nat → Int32} {m n : Nat} (hm : m ≤ 10) (hn : n ≤ 14) : MKi 2 y_Y_tight b_Y_tight 4 (some .int) [] (YW (nI m) (nI n) fa fb ft fo) (fun r (_ : ((Nat → Int32) × (Nat → Int32))) => r = an_tight m n fa fb) (fun u : ((Nat → Int32) × (Nat → Int32)) => YW (nI m) (nI n) fa fb u.1 u.2) := by
  refine ok_i (own := R_Y) (by decide) rfl (fun _ => Nat.le_of_ble_eq_true rfl) ?_
  intro l dC dI q cA p e s mi args below meth c A ls Q C hret h hl
  have hx := C.1
  have hb := C.2.1
  have hl : lv_has ls 4 [(0, .ref (q 0))] := hl
  have hG : ∀ k l, (fun i j => sw_d fa fb 0 i m (j - i)) k l < 1000 := fun k l => by have := sw_d_le fa fb 0 k m (l - k); show sw_d fa fb 0 k m (l - k) < 1000; omega
  have loopI2 : ∀ (fuel : Nat) (i k : Nat) (f g : Nat → Int32), i ≤ n + 1 → n + 1 + 1 ≤ i + fuel → (k = sw_sum (fun i => sw_cnt (fun d => sw_tt (fun i j => sw_d fa fb 0 i m (j - i)) i (i + d)) (n + 1 - i)) i) → (∀ k l, k ≤ l → l ≤ n → g (k * 15 + l) = nI ((fun i j => sw_d fa fb 0 i m (j - i)) k l)) → ∀ (H : Heap) (locs : List Loc) (ls : Array Slot), WK s dC dI A (YW (nI m) (nI n) fa fb f g q cA) H locs → lv_has ls 4 [(0, .ref (q 0)), (1, .int (nI k)), (2, .int (nI i))] → W p l e (rm_L 2) s mi args below meth c H locs 0 0 Q (F0 mi 60 ls []) := by
    intro fuel
    induction fuel with
    | zero => intro i k f g hle hfu; exact absurd hfu (by omega)
    | succ fuel ih_loopI2 =>
      intro i k f g hle hfu hk hof H locs ls h hl
      refine lv_iload_n hx hb d_Y_tight_60 rfl (lv_at hl 2 rfl) ?_
      refine lv_aload_n hx hb d_Y_tight_61 rfl (lv_at hl 0 rfl) ?_
      refine gY_n C h d_Y_tight_62 ?_
      refine nb_gt (tgt := 102) hx hb (by omega) (by omega) d_Y_tight_65 (by decide) (fun ci => ?_) (fun ci => ?_)
      · obtain rfl : i = n + 1 := by omega
        refine lv_iload_n hx hb d_Y_tight_102 rfl (lv_at hl 1 rfl) ?_
        exact hret (nI k) (f, g) _ _ _ _ d_Y_tight_103 (by rw [hk]; rfl) h
      · refine lv_iload_n hx hb d_Y_tight_68 rfl (lv_at hl 2 rfl) ?_
        refine lv_istore_n (lv' := [(3, .int (nI i)), (0, .ref (q 0)), (1, .int (nI k)), (2, .int (nI i))]) hx hb d_Y_tight_69 rfl hl (by decide) rfl (fun ls hl => ?_)
        have loopJ2 : ∀ (fuelJ : Nat) (d k : Nat), d ≤ n + 1 - i → n + 1 - i + 1 ≤ d + fuelJ → (k = sw_sum (fun i => sw_cnt (fun d => sw_tt (fun i j => sw_d fa fb 0 i m (j - i)) i (i + d)) (n + 1 - i)) i + sw_cnt (fun d => sw_tt (fun i j => sw_d fa fb 0 i m (j - i)) i (i + d)) d) → ∀ (H : Heap) (locs : List Loc) (ls : Array Slot), WK s dC dI A (YW (nI m) (nI n) fa fb f g q cA) H locs → lv_has ls 4 [(0, .ref (q 0)), (1, .int (nI k)), (2, .int (nI i)), (3, .int (nI (i + d)))] → W p l e (rm_L 2) s mi args below meth c H locs 0 0 Q (F0 mi 70 ls []) := by
          intro fuelJ
          induction fuelJ with
          | zero => intro d k hle hfu; exact absurd hfu (by omega)
          | succ fuelJ ih_loopJ2 =>
            intro d k hle hfu hk H locs ls h hl
            refine lv_iload_n hx hb d_Y_tight_70 rfl (lv_at hl 3 rfl) ?_
            refine lv_aload_n hx hb d_Y_tight_71 rfl (lv_at hl 0 rfl) ?_
            refine gY_n C h d_Y_tight_72 ?_
            refine nb_gt (tgt := 96) hx hb (by omega) (by omega) d_Y_tight_75 (by decide) (fun cj => ?_) (fun cj => ?_)
            · obtain rfl : n + 1 - i = d := by omega
              refine ni_iinc (k := 2) (lv' := [(2, .int (nI (i + 1))), (0, .ref (q 0)), (1, .int (nI k)), (3, .int (nI (i + (n + 1 - i))))]) hx hb d_Y_tight_96 hl rfl (by decide) rfl (fun ls hl => ?_)
              refine lv_goto (tgt := 60) hx hb d_Y_tight_99 (by decide) ?_
              exact ih_loopI2 (i + 1) k f g (by omega) (by omega) (by rw [hk]; rfl) (hof) _ _ _ h (lv_sub hl [1, 2, 0] rfl)
            · refine lv_aload_n hx hb d_Y_tight_78 rfl (lv_at hl 0 rfl) ?_
              refine lv_iload_n hx hb d_Y_tight_79 rfl (lv_at hl 2 rfl) ?_
              refine lv_iload_n hx hb d_Y_tight_80 rfl (lv_at hl 3 rfl) ?_
              refine ck_i (n := 2) (ci := 1) (rest := []) C h (c_Y_isTight (G := (fun i j => sw_d fa fb 0 i m (j - i))) (i := i) (j := i + d) (n := n) hn hG hof (by omega) (by omega)) rfl rfl (tb_goodIn tl_Y_56 ti_Y_isTight ts_Y_isTight tn_Y tc_Y_isTight) (by decide +kernel) ⟨Nat.le_of_ble_eq_true rfl, Nat.le_of_ble_eq_true rfl⟩ rfl hl rfl (Nat.le_of_ble_eq_true rfl) ⟨Nat.zero_le _, Nat.zero_le _⟩ d_Y_tight_81 (fun r2 u H locs h2 h => ?_)
              refine lv_if_eq (tgt := 90) hx hb d_Y_tight_84 (by decide) (fun c1 => ?_) (fun c1 => ?_)
              · refine ni_iinc (k := 3) (lv' := [(3, .int (nI (i + d + 1))), (0, .ref (q 0)), (1, .int (nI k)), (2, .int (nI i))]) hx hb d_Y_tight_90 hl rfl (by decide) rfl (fun ls hl => ?_)
                refine lv_goto (tgt := 70) hx hb d_Y_tight_93 (by decide) ?_
                exact ih_loopJ2 (d + 1) k (by omega) (by omega) (by rw [hk, sw_cnt_f (p := fun d => sw_tt (fun i j => sw_d fa fb 0 i m (j - i)) i (i + d)) (sw_tt_f (sw_is_f h2 c1))]) _ _ _ h (lv_sub hl [1, 2, 3, 0] rfl)
              · refine ni_iinc (k := 1) (lv' := [(1, .int (nI (k + 1))), (0, .ref (q 0)), (2, .int (nI i)), (3, .int (nI (i + d)))]) hx hb d_Y_tight_87 hl rfl (by decide) rfl (fun ls hl => ?_)
                refine ni_iinc (k := 3) (lv' := [(3, .int (nI (i + d + 1))), (1, .int (nI (k + 1))), (0, .ref (q 0)), (2, .int (nI i))]) hx hb d_Y_tight_90 hl rfl (by decide) rfl (fun ls hl => ?_)
                refine lv_goto (tgt := 70) hx hb d_Y_tight_93 (by decide) ?_
                exact ih_loopJ2 (d + 1) (k + 1) (by omega) (by omega) (by rw [hk, sw_cnt_t (p := fun d => sw_tt (fun i j => sw_d fa fb 0 i m (j - i)) i (i + d)) (sw_tt_t (sw_is_t h2 c1))]; rfl) _ _ _ h (lv_sub hl [2, 1, 3, 0] rfl)
        exact loopJ2 (n + 1 - i + 1) 0 k (by omega) (by omega) (hk) _ _ _ h (lv_sub hl [1, 2, 3, 0] rfl)
  refine lv_iconst (v := nI 0) hx hb d_Y_tight_0 (by decide) ?_
  refine lv_istore_n (lv' := [(1, .int (nI 0)), (0, .ref (q 0))]) hx hb d_Y_tight_1 rfl hl (by decide) rfl (fun ls hl => ?_)
  have loopI : ∀ (fuel : Nat) (i : Nat) (f g : Nat → Int32), i ≤ n + 1 → n + 1 + 1 ≤ i + fuel → (sw_fo (fun i j => sw_d fa fb 0 i m (j - i)) n i i g) → ∀ (H : Heap) (locs : List Loc) (ls : Array Slot), WK s dC dI A (YW (nI m) (nI n) fa fb f g q cA) H locs → lv_has ls 4 [(0, .ref (q 0)), (1, .int (nI i))] → W p l e (rm_L 2) s mi args below meth c H locs 0 0 Q (F0 mi 2 ls []) := by
    intro fuel
    induction fuel with
    | zero => intro i f g hle hfu; exact absurd hfu (by omega)
    | succ fuel ih_loopI =>
      intro i f g hle hfu hfo H locs ls h hl
      refine lv_iload_n hx hb d_Y_tight_2 rfl (lv_at hl 1 rfl) ?_
      refine lv_aload_n hx hb d_Y_tight_3 rfl (lv_at hl 0 rfl) ?_
      refine gY_n C h d_Y_tight_4 ?_
      refine nb_gt (tgt := 56) hx hb (by omega) (by omega) d_Y_tight_7 (by decide) (fun ci => ?_) (fun ci => ?_)
      · obtain rfl : i = n + 1 := by omega
        refine lv_iconst (v := nI 0) hx hb d_Y_tight_56 (by decide) ?_
        refine lv_istore_n (lv' := [(1, .int (nI 0)), (0, .ref (q 0))]) hx hb d_Y_tight_57 rfl hl (by decide) rfl (fun ls hl => ?_)
        refine lv_iconst (v := nI 0) hx hb d_Y_tight_58 (by decide) ?_
        refine lv_istore_n (lv' := [(2, .int (nI 0)), (1, .int (nI 0)), (0, .ref (q 0))]) hx hb d_Y_tight_59 rfl hl (by decide) rfl (fun ls hl => ?_)
        exact loopI2 (n + 1 + 1) 0 0 f g (by omega) (by omega) (rfl) (fun k l g1 g2 => hfo k l g1 g2 (by omega)) _ _ _ h (lv_sub hl [2, 1, 0] rfl)
      · refine lv_iload_n hx hb d_Y_tight_10 rfl (lv_at hl 1 rfl) ?_
        refine lv_istore_n (lv' := [(2, .int (nI i)), (0, .ref (q 0)), (1, .int (nI i))]) hx hb d_Y_tight_11 rfl hl (by decide) rfl (fun ls hl => ?_)
        have loopJ : ∀ (fuelJ : Nat) (j : Nat) (f g : Nat → Int32), j ≤ n + 1 → n + 1 + 1 ≤ j + fuelJ → (i ≤ j) → (sw_fo (fun i j => sw_d fa fb 0 i m (j - i)) n i j g) → ∀ (H : Heap) (locs : List Loc) (ls : Array Slot), WK s dC dI A (YW (nI m) (nI n) fa fb f g q cA) H locs → lv_has ls 4 [(0, .ref (q 0)), (1, .int (nI i)), (2, .int (nI j))] → W p l e (rm_L 2) s mi args below meth c H locs 0 0 Q (F0 mi 12 ls []) := by
          intro fuelJ
          induction fuelJ with
          | zero => intro j f g hle hfu; exact absurd hfu (by omega)
          | succ fuelJ ih_loopJ =>
            intro j f g hle hfu hij hfo H locs ls h hl
            refine lv_iload_n hx hb d_Y_tight_12 rfl (lv_at hl 2 rfl) ?_
            refine lv_aload_n hx hb d_Y_tight_13 rfl (lv_at hl 0 rfl) ?_
            refine gY_n C h d_Y_tight_14 ?_
            refine nb_gt (tgt := 50) hx hb (by omega) (by omega) d_Y_tight_17 (by decide) (fun cj => ?_) (fun cj => ?_)
            · obtain rfl : j = n + 1 := by omega
              refine ni_iinc (k := 1) (lv' := [(1, .int (nI (i + 1))), (0, .ref (q 0)), (2, .int (nI (n + 1)))]) hx hb d_Y_tight_50 hl rfl (by decide) rfl (fun ls hl => ?_)
              refine lv_goto (tgt := 2) hx hb d_Y_tight_53 (by decide) ?_
              exact ih_loopI (i + 1) f g (by omega) (by omega) (sw_fo_r hfo) _ _ _ h (lv_sub hl [1, 0] rfl)
            · refine lv_aload_n hx hb d_Y_tight_20 rfl (lv_at hl 0 rfl) ?_
              refine gY_of C h d_Y_tight_21 ?_
              refine lv_iload_n hx hb d_Y_tight_24 rfl (lv_at hl 1 rfl) ?_
              refine lv_bipush (v := nI 15) hx hb d_Y_tight_25 (by decide) ?_
              refine ni_mul hx hb d_Y_tight_27 ?_
              refine lv_iload_n hx hb d_Y_tight_28 rfl (lv_at hl 2 rfl) ?_
              refine ni_add hx hb d_Y_tight_29 ?_
              refine lv_aload_n hx hb d_Y_tight_30 rfl (lv_at hl 0 rfl) ?_
              refine lv_iconst (v := nI 0) hx hb d_Y_tight_31 (by decide) ?_
              refine lv_aload_n hx hb d_Y_tight_32 rfl (lv_at hl 0 rfl) ?_
              refine gY_m C h d_Y_tight_33 ?_
              refine lv_iload_n hx hb d_Y_tight_36 rfl (lv_at hl 1 rfl) ?_
              refine lv_iload_n hx hb d_Y_tight_37 rfl (lv_at hl 2 rfl) ?_
              refine lv_iload_n hx hb d_Y_tight_38 rfl (lv_at hl 1 rfl) ?_
              refine ni_sub hx hb (by omega) d_Y_tight_39 ?_
              refine ck_i (n := 4) (ci := 1) (rest := [.int (nI ((i * 15) + j)), .ref (q 4)]) C h (c_Y_common (a := 0) (k := m) (t := i) (j := j - i) hn (by omega) (by omega) (by omega) (fun _ => by omega)) rfl rfl (tb_goodIn tl_Y_41 ti_Y_common ts_Y_common tn_Y tc_Y_common) (by decide +kernel) ⟨Nat.le_of_ble_eq_true rfl, Nat.le_of_ble_eq_true rfl⟩ rfl hl rfl (Nat.le_of_ble_eq_true rfl) ⟨Nat.zero_le _, Nat.zero_le _⟩ d_Y_tight_40 (fun r2 f2 H locs h2 h => ?_)
              rw [sw_d_mod _ _ _ _ _ _ _ (by omega)] at h2
              subst h2
              refine sY_of C h ((i * 15) + j) (by omega) d_Y_tight_43 (fun H locs h => ?_)
              refine ni_iinc (k := 2) (lv' := [(2, .int (nI (j + 1))), (0, .ref (q 0)), (1, .int (nI i))]) hx hb d_Y_tight_44 hl rfl (by decide) rfl (fun ls hl => ?_)
              refine lv_goto (tgt := 12) hx hb d_Y_tight_47 (by decide) ?_
              exact ih_loopJ (j + 1) f2 _ (by omega) (by omega) (by omega) (sw_fo_s (G := (fun i j => sw_d fa fb 0 i m (j - i))) hfo hn (by omega)) _ _ _ h (lv_sub hl [1, 2, 0] rfl)
        exact loopJ (n + 1 + 1) i f g (by omega) (by omega) (Nat.le_refl _) (hfo) _ _ _ h (lv_sub hl [1, 2, 0] rfl)
  exact loopI (n + 1 + 1) 0 ft fo (by omega) (by omega) (sw_fo_0 _ _ _) _ _ _ h (lv_sub hl [1, 0] rfl)
end
section
/-! ROWS FOR THE LAW: calls beside another world, the script; printed by gen_init.py -/
/-- two worlds are apart -/
def AP (w1 w2 : va_W) : Prop := ∀ (i j : Nat) (x y : Nat × va_E), w1[i]? = some x → w2[j]? = some y → x.1 ≠ y.1
theorem AP.sy {w1 w2 : va_W} (h : AP w1 w2) : AP w2 w1 := fun i j x y hx hy e => h j i y x hy hx e.symm
theorem AP.of {A : Nat → Prop} {w1 w2 : va_W} (h : va_D A (w1 ++ w2)) : AP w1 w2 := by
  intro i j x y hx hy e
  have hi : i < w1.length := (List.getElem?_eq_some_iff.mp hx).1
  have h1 : (w1 ++ w2)[i]? = some x := by rw [List.getElem?_append_left hi]; exact hx
  have h2 : (w1 ++ w2)[w1.length + j]? = some y := by rw [List.getElem?_append_right (Nat.le_add_right _ _), Nat.add_sub_cancel_left]; exact hy
  have := h.1 i (w1.length + j) x y h1 h2 e
  omega
section CL
variable {p : Program} {l : Launch} {e : Env} {R : Room} {s : State} {m : MethodId} {args : Array Value} {below : List Frame} {meth : Method} {c : Code} {H : Heap} {locs : List Loc} {cells slots : Nat} {Q : State → Prop}
variable {cc : ByteArray} {pc : Nat} {ls : Array Slot} {rest : List Value}
variable {dC : Nat → ClassId} {dI : Nat → Nat → Nat} {cA : ClassId} {A : Nat → Prop} {own : String} {nL : Nat} {q : Nat → Nat} {w2 : va_W}
theorem cl_i {lev maxL idx n ci : Nat} {y : MethodName} {b : ByteArray} {ret : Option FieldType} {av st : List Value} {wd : WD} {S : Type} {post : Int32 → S → Prop} {wd2 : S → WD} {C0 : vw_C} {fs : List Value} {lv : List (Nat × Value)} (C : CK p s m args c cc nL dC dI cA A own) (h : WK s dC dI A (wd q cA) H locs) (h2 : WK s dC dI A w2 H locs) (hap : AP (wd q cA) w2) (hM : MKi lev y b maxL ret av wd post wd2) (hci : classes[ci]? = some C0) (h0 : (wd q cA)[0]? = some (q 0, .inr (ci, fs))) (hg : GoodIn tb_ws (wsV own idx C0.1 y (Cond.code y b maxL ret :: tb_ws)))
    (hd : y.cls = C0.1 ∧ y.cls ≠ "java/lang/invoke/MethodHandle" ∧ y.cls ≠ "java/lang/invoke/VarHandle" ∧ (parseMethodDescriptor y.desc).map (fun d => d.parameters.length) = some n) (hR : lev + 1 ≤ R.frames ∧ 8 + (maxL + 11) + 30 * lev ≤ R.locals) (hn : av.length = n) (hl : lv_has ls nL lv) (hst : st = av.reverse ++ .ref (q 0) :: rest) (hrm : (rest.map fun v => v.category).sum ≤ 8) (hf : cells ≤ R.cells ∧ slots ≤ R.slots) (hdg : decode cc pc = .ok (.invokevirtual idx, 3))
    (kk : ∀ (r : Int32) (u : S) (H1 : Heap) (locs1 : List Loc), post r u → WK s dC dI A (wd2 u q cA) H1 locs1 → WK s dC dI A w2 H1 locs1 → AP (wd2 u q cA) w2 → W p l e R s m args below meth c H1 locs1 cells slots Q (F0 m (pc + 3) ls (.int r :: rest))) : W p l e R s m args below meth c H locs cells slots Q (F0 m pc ls st) := by
  obtain ⟨hx, hb, hml, hown, hts, hK, hA⟩ := C
  have hF := h.free hA
  have key : ∀ (j : Nat) (y : Nat × va_E), w2[j]? = some y → y.1 < H.size ∧ ¬ va_A (wd q cA) H.size y.1 := by
    intro j y hy
    have hlt := (h2.1 j y hy).lt
    refine ⟨hlt, fun z => ?_⟩
    rcases z with ⟨k, e, hk⟩ | z
    · exact hap k j (y.1, e) y hk hy rfl
    · omega
  exact va_calli (va_runV (As := av) (rest := rest) ⟨hx, hb, hml, hown, hts⟩ (hM l dC dI q cA H.size) (cwV n hts hg rfl rfl rfl hd ⟨hR.1, hR.2⟩) ⟨PK_blind _ _ _ _ _ _, va_recv hK h.1 hci h0, fun U hU hW => ⟨rfl, by rw [hU], by rw [hU]; exact h.1, va_K.moved hW.alike hK, h.2.1.weaken (fun _ _ _ _ => trivial)⟩⟩ rfl hn hl.1 hst (lv_room hrm) hdg ⟨hf.1, hf.2⟩) h.2.2 (fun q _ hq => hF q hq) hF (fun r u t H1 locs1 ht hvm hp hB hz1 hk1 hS => kk r u H1 locs1 hp ⟨by rw [← ht]; exact hB.1, hB.2.2.weaken (fun _ q _ hq => hF q.1 hq), hS⟩ ⟨h2.1.kept (fun j y hy => hk1 y.1 (key j y hy).1 (key j y hy).2), h2.2.1, hS⟩ (fun i j x y hx hy e => (key j y hy).2 (by rw [← e]; exact hB.2.2.2 i x hx)))
theorem cl_v {lev maxL idx n ci : Nat} {y : MethodName} {b : ByteArray} {av st : List Value} {wd : WD} {S : Type} {post : S → Prop} {wd2 : S → WD} {C0 : vw_C} {fs : List Value} {lv : List (Nat × Value)} (C : CK p s m args c cc nL dC dI cA A own) (h : WK s dC dI A (wd q cA) H locs) (h2 : WK s dC dI A w2 H locs) (hap : AP (wd q cA) w2) (hM : MKv lev y b maxL av wd post wd2) (hci : classes[ci]? = some C0) (h0 : (wd q cA)[0]? = some (q 0, .inr (ci, fs))) (hg : GoodIn tb_ws (wsV own idx C0.1 y (Cond.code y b maxL none :: tb_ws)))
    (hd : y.cls = C0.1 ∧ y.cls ≠ "java/lang/invoke/MethodHandle" ∧ y.cls ≠ "java/lang/invoke/VarHandle" ∧ (parseMethodDescriptor y.desc).map (fun d => d.parameters.length) = some n) (hR : lev + 1 ≤ R.frames ∧ 8 + (maxL + 11) + 30 * lev ≤ R.locals) (hn : av.length = n) (hl : lv_has ls nL lv) (hst : st = av.reverse ++ .ref (q 0) :: rest) (hrm : (rest.map fun v => v.category).sum ≤ 8) (hf : cells ≤ R.cells ∧ slots ≤ R.slots) (hdg : decode cc pc = .ok (.invokevirtual idx, 3))
    (kk : ∀ (u : S) (H1 : Heap) (locs1 : List Loc), post u → WK s dC dI A (wd2 u q cA) H1 locs1 → WK s dC dI A w2 H1 locs1 → AP (wd2 u q cA) w2 → W p l e R s m args below meth c H1 locs1 cells slots Q (F0 m (pc + 3) ls rest)) : W p l e R s m args below meth c H locs cells slots Q (F0 m pc ls st) := by
  obtain ⟨hx, hb, hml, hown, hts, hK, hA⟩ := C
  have hF := h.free hA
  have key : ∀ (j : Nat) (y : Nat × va_E), w2[j]? = some y → y.1 < H.size ∧ ¬ va_A (wd q cA) H.size y.1 := by
    intro j y hy
    have hlt := (h2.1 j y hy).lt
    refine ⟨hlt, fun z => ?_⟩
    rcases z with ⟨k, e, hk⟩ | z
    · exact hap k j (y.1, e) y hk hy rfl
    · omega
  exact va_callv (va_runV (As := av) (rest := rest) ⟨hx, hb, hml, hown, hts⟩ (hM l dC dI q cA H.size) (cwV n hts hg rfl rfl rfl hd ⟨hR.1, hR.2⟩) ⟨PK_blind _ _ _ _ _ _, va_recv hK h.1 hci h0, fun U hU hW => ⟨rfl, by rw [hU], by rw [hU]; exact h.1, va_K.moved hW.alike hK, h.2.1.weaken (fun _ _ _ _ => trivial)⟩⟩ rfl hn hl.1 hst (lv_room hrm) hdg ⟨hf.1, hf.2⟩) h.2.2 (fun q _ hq => hF q hq) hF (fun u t H1 locs1 ht hvm hp hB hz1 hk1 hS => kk u H1 locs1 hp ⟨by rw [← ht]; exact hB.1, hB.2.2.weaken (fun _ q _ hq => hF q.1 hq), hS⟩ ⟨h2.1.kept (fun j y hy => hk1 y.1 (key j y hy).1 (key j y hy).2), h2.2.1, hS⟩ (fun i j x y hx hy e => (key j y hy).2 (by rw [← e]; exact hB.2.2.2 i x hx)))
theorem sl_ld {b L : Nat} {xs : Nat → Int32} (hx : p.tables.exec = Jvm.exec) (hb : c.code = cc) (hX : va_X b L xs s s.heap) (hbl : b < s.heap.size) (hbA : ¬ A b) (h2 : WK s dC dI A w2 H locs) (k : Nat) (hk : k < L) (hL : L ≤ 1536) (hdg : decode cc pc = .ok (.iaload, 1)) (kk : W p l e R s m args below meth c H locs cells slots Q (F0 m (pc + 1) ls (.int (xs k) :: rest))) : W p l e R s m args below meth c H locs cells slots Q (F0 m pc ls (.int (nI k) :: .ref b :: rest)) := va_sld hx hb hX hbl hbA h2.2.2 (vp_in_nI hk (by omega)) hdg (by rw [nI_clamp (by omega)]; exact kk)
end CL
end
section
/-! THE TWO CONSTRUCTORS; printed by gen_init.py -/
theorem cA_one {D : va_G} {cl : List vw_C} {tys : List (ClassId × FieldType)} {s : State} {c1 c2 : ClassId} {i j : Nat} (hK : va_K D cl tys s) (h1 : tys[i]? = some (c1, .int)) (h2 : tys[j]? = some (c2, .int)) : c2 = c1 := by
  have e1 : s.vm.findClass ("[" ++ FieldType.int.toString) = some c1 := (hK.2 i _ h1).2
  have e2 : s.vm.findClass ("[" ++ FieldType.int.toString) = some c2 := (hK.2 j _ h2).2
  exact Option.some.inj (e2.symm.trans e1)
set_option maxHeartbeats 4000000 in
set_option maxRecDepth 100000 in
theorem c_X_init (l : Launch) (dC : Nat → ClassId) (dI : Nat → Nat → Nat) (h0 sz : Nat) : Met l y_X_init (Cond.code y_X_init b_X_init 1 none :: tb_ws) ({ frames := 1, cells := 6, slots := 174, locals := 12 }) (va_Pc [.ref h0] (fun U => U.heap.size = sz ∧ va_P (dC, dI) classes [(h0, .inr (0, [.int 0, .null, .int 0, .null, .null, .null, .null, .null]))] U.heap ∧ va_K (dC, dI) classes [] U ∧ va_D (fun _ => True) [(h0, .inr (0, [.int 0, .null, .int 0, .null, .null, .null, .null, .null]))])) (va_Qv (fun u : (Nat → Nat) × ClassId => u.1 0 = h0) (fun u t => va_P (dC, dI) classes (XW 0 0 (fun _ => 0) (fun _ => 0) (fun _ => 0) (fun _ => 0) (fun _ => 0) (fun _ => 0) u.1 u.2) t.heap ∧ va_K (dC, dI) classes [(u.2, .int)] t ∧ va_D (va_A [(h0, .inr (0, [.int 0, .null, .int 0, .null, .null, .null, .null, .null]))] sz) (XW 0 0 (fun _ => 0) (fun _ => 0) (fun _ => 0) (fun _ => 0) (fun _ => 0) (fun _ => 0) u.1 u.2)) (va_A [(h0, .inr (0, [.int 0, .null, .int 0, .null, .null, .null, .null, .null]))] sz)) 6 174 (va_A [(h0, .inr (0, [.int 0, .null, .int 0, .null, .null, .null, .null, .null]))] sz) := by
  refine Met.ofW (cc := b_X_init) (maxL := 1) (ret := none) (by decide) rfl ?_
  intro p e s m args below meth c s₁ B hml hv
  obtain ⟨rfl, hsz, hP, hK, hD0⟩ := hv
  have hx := B.exec
  have hb := B.bytes
  have hr := B.returns
  have hts0 := atoms_spec (ws := Cond.code y_X_init b_X_init 1 none :: tb_ws) B.pre
  have hts : ∀ w ∈ tb_ws, w.before _ s = true := fun w hw => hts0 w (List.mem_cons_of_mem _ hw)
  have hown : s.vm.findClass R_X = some m.cls := findClass_of_methodNamed B.named
  have hlocks := B.notSynchronized
  have hin : meth.name = "<init>" := (name_of_methodNamed B.named B.method).1
  subst hsz
  have hD := hD0.self (sz := s.heap.size)
  generalize hAe : va_A [(h0, .inr (0, [.int 0, .null, .int 0, .null, .null, .null, .null, .null]))] s.heap.size = A at hD ⊢
  have hA : ∀ q : Nat, s.heap.size ≤ q → A q := fun q h => by rw [← hAe]; exact Or.inr h
  have hS : va_S A s.heap s.heap [] := va_S.rf
  have hP : va_P (dC, dI) classes [(h0, .inr (0, [.int 0, .null, .int 0, .null, .null, .null, .null, .null]))] s.heap := hP
  have hl := lv_entry ([.ref h0]) (n := 1) (Nat.le_of_ble_eq_true rfl)
  rw [lg_entry_eq]
  generalize (lg_sl ([.ref h0]) ++ List.replicate (1 - (lg_sl ([.ref h0])).length) Slot.unset).toArray = ls at hl ⊢
  have hl : lv_has ls 1 [(0, .ref h0)] := hl
  refine lv_aload_n hx hb d_X_init_0 rfl (lv_at hl 0 rfl) ?_
  refine W.objInit hx hb hown (hts _ tl_X_1) (hts _ ti_object) (hts _ tc_object) rfl (by rw [hml]; exact hl.1) rfl d_X_init_1 (Nat.le_of_ble_eq_true rfl) (Nat.le_of_ble_eq_true rfl) ?_
  refine W.eq (g2 := F0 m 4 ls []) rfl ?_
  refine lv_aload_n hx hb d_X_init_4 rfl (lv_at hl 0 rfl) ?_
  refine lv_bipush (v := nI 10) hx hb d_X_init_5 (by decide) ?_
  refine va_newa (atype := .int) (a0 := (10, .inl (fun _ => 0))) (ty := .int) hx hb (hts _ ta_int) rfl hK hP hD hS hA (fun _ => rfl) (nI_pos (by decide)) (nI_clamp (by decide)) (by decide) (Nat.le_of_ble_eq_true rfl) (Nat.le_of_ble_eq_true rfl) d_X_init_7 (fun q1 cA H hK hP hD hS => ?_)
  have hK : va_K (dC, dI) classes [(cA, .int)] s := hK
  have hP : va_P (dC, dI) classes [(h0, .inr (0, [.int 0, .null, .int 0, .null, .null, .null, .null, .null])), (q1, .inl (cA, 10, .inl (fun _ => 0)))] H := hP
  have hD : va_D A [(h0, .inr (0, [.int 0, .null, .int 0, .null, .null, .null, .null, .null])), (q1, .inl (cA, 10, .inl (fun _ => 0)))] := hD
  refine va_putF (D := (dC, dI)) (ci := 0) (v := .ref q1) (ty := .array .int) (C := R_X) (T := F_X) (N := 8) hx hb hts i_X t_X t_X_ok n_X hown hK hP hD hS 0 rfl rfl 1 (by decide) (hts _ tf_X_a) (fun _ h9 => h9) rfl hin rfl (by decide +kernel) rfl rfl (Nat.le_of_ble_eq_true rfl) d_X_init_9 (fun H locs hP hD hS => ?_)
  have hP : va_P (dC, dI) classes [(h0, .inr (0, [.int 0, .ref q1, .int 0, .null, .null, .null, .null, .null])), (q1, .inl (cA, 10, .inl (fun _ => 0)))] H := hP
  have hD : va_D A [(h0, .inr (0, [.int 0, .ref q1, .int 0, .null, .null, .null, .null, .null])), (q1, .inl (cA, 10, .inl (fun _ => 0)))] := hD
  refine lv_aload_n hx hb d_X_init_12 rfl (lv_at hl 0 rfl) ?_
  refine lv_bipush (v := nI 14) hx hb d_X_init_13 (by decide) ?_
  refine va_newa (atype := .int) (a0 := (14, .inl (fun _ => 0))) (ty := .int) hx hb (hts _ ta_int) rfl hK hP hD hS hA (fun _ => rfl) (nI_pos (by decide)) (nI_clamp (by decide)) (by decide) (Nat.le_of_ble_eq_true rfl) (Nat.le_of_ble_eq_true rfl) d_X_init_15 (fun q2 cB H hK hP hD hS => ?_)
  obtain rfl : cB = cA := cA_one (i := 0) (j := 1) hK rfl rfl
  have hK := hK.sub (tys' := [(cB, .int)]) [0] rfl
  generalize cB = cA at hK hP hD
  have hK : va_K (dC, dI) classes [(cA, .int)] s := hK
  have hP : va_P (dC, dI) classes [(h0, .inr (0, [.int 0, .ref q1, .int 0, .null, .null, .null, .null, .null])), (q1, .inl (cA, 10, .inl (fun _ => 0))), (q2, .inl (cA, 14, .inl (fun _ => 0)))] H := hP
  have hD : va_D A [(h0, .inr (0, [.int 0, .ref q1, .int 0, .null, .null, .null, .null, .null])), (q1, .inl (cA, 10, .inl (fun _ => 0))), (q2, .inl (cA, 14, .inl (fun _ => 0)))] := hD
  refine va_putF (D := (dC, dI)) (ci := 0) (v := .ref q2) (ty := .array .int) (C := R_X) (T := F_X) (N := 8) hx hb hts i_X t_X t_X_ok n_X hown hK hP hD hS 0 rfl rfl 3 (by decide) (hts _ tf_X_b) (fun _ h9 => h9) rfl hin rfl (by decide +kernel) rfl rfl (Nat.le_of_ble_eq_true rfl) d_X_init_17 (fun H locs hP hD hS => ?_)
  have hP : va_P (dC, dI) classes [(h0, .inr (0, [.int 0, .ref q1, .int 0, .ref q2, .null, .null, .null, .null])), (q1, .inl (cA, 10, .inl (fun _ => 0))), (q2, .inl (cA, 14, .inl (fun _ => 0)))] H := hP
  have hD : va_D A [(h0, .inr (0, [.int 0, .ref q1, .int 0, .ref q2, .null, .null, .null, .null])), (q1, .inl (cA, 10, .inl (fun _ => 0))), (q2, .inl (cA, 14, .inl (fun _ => 0)))] := hD
  refine lv_aload_n hx hb d_X_init_20 rfl (lv_at hl 0 rfl) ?_
  refine lv_iconst (v := nI 3) hx hb d_X_init_21 (by decide) ?_
  refine va_newa (atype := .int) (a0 := (3, .inl (fun _ => 0))) (ty := .int) hx hb (hts _ ta_int) rfl hK hP hD hS hA (fun _ => rfl) (nI_pos (by decide)) (nI_clamp (by decide)) (by decide) (Nat.le_of_ble_eq_true rfl) (Nat.le_of_ble_eq_true rfl) d_X_init_22 (fun q3 cB H hK hP hD hS => ?_)
  obtain rfl : cB = cA := cA_one (i := 0) (j := 1) hK rfl rfl
  have hK := hK.sub (tys' := [(cB, .int)]) [0] rfl
  generalize cB = cA at hK hP hD
  have hK : va_K (dC, dI) classes [(cA, .int)] s := hK
  have hP : va_P (dC, dI) classes [(h0, .inr (0, [.int 0, .ref q1, .int 0, .ref q2, .null, .null, .null, .null])), (q1, .inl (cA, 10, .inl (fun _ => 0))), (q2, .inl (cA, 14, .inl (fun _ => 0))), (q3, .inl (cA, 3, .inl (fun _ => 0)))] H := hP
  have hD : va_D A [(h0, .inr (0, [.int 0, .ref q1, .int 0, .ref q2, .null, .null, .null, .null])), (q1, .inl (cA, 10, .inl (fun _ => 0))), (q2, .inl (cA, 14, .inl (fun _ => 0))), (q3, .inl (cA, 3, .inl (fun _ => 0)))] := hD
  refine va_putF (D := (dC, dI)) (ci := 0) (v := .ref q3) (ty := .array .int) (C := R_X) (T := F_X) (N := 8) hx hb hts i_X t_X t_X_ok n_X hown hK hP hD hS 0 rfl rfl 4 (by decide) (hts _ tf_X_rows) (fun _ h9 => h9) rfl hin rfl (by decide +kernel) rfl rfl (Nat.le_of_ble_eq_true rfl) d_X_init_24 (fun H locs hP hD hS => ?_)
  have hP : va_P (dC, dI) classes [(h0, .inr (0, [.int 0, .ref q1, .int 0, .ref q2, .ref q3, .null, .null, .null])), (q1, .inl (cA, 10, .inl (fun _ => 0))), (q2, .inl (cA, 14, .inl (fun _ => 0))), (q3, .inl (cA, 3, .inl (fun _ => 0)))] H := hP
  have hD : va_D A [(h0, .inr (0, [.int 0, .ref q1, .int 0, .ref q2, .ref q3, .null, .null, .null])), (q1, .inl (cA, 10, .inl (fun _ => 0))), (q2, .inl (cA, 14, .inl (fun _ => 0))), (q3, .inl (cA, 3, .inl (fun _ => 0)))] := hD
  refine lv_aload_n hx hb d_X_init_27 rfl (lv_at hl 0 rfl) ?_
  refine lv_iconst (v := nI 3) hx hb d_X_init_28 (by decide) ?_
  refine va_newa (atype := .int) (a0 := (3, .inl (fun _ => 0))) (ty := .int) hx hb (hts _ ta_int) rfl hK hP hD hS hA (fun _ => rfl) (nI_pos (by decide)) (nI_clamp (by decide)) (by decide) (Nat.le_of_ble_eq_true rfl) (Nat.le_of_ble_eq_true rfl) d_X_init_29 (fun q4 cB H hK hP hD hS => ?_)
  obtain rfl : cB = cA := cA_one (i := 0) (j := 1) hK rfl rfl
  have hK := hK.sub (tys' := [(cB, .int)]) [0] rfl
  generalize cB = cA at hK hP hD
  have hK : va_K (dC, dI) classes [(cA, .int)] s := hK
  have hP : va_P (dC, dI) classes [(h0, .inr (0, [.int 0, .ref q1, .int 0, .ref q2, .ref q3, .null, .null, .null])), (q1, .inl (cA, 10, .inl (fun _ => 0))), (q2, .inl (cA, 14, .inl (fun _ => 0))), (q3, .inl (cA, 3, .inl (fun _ => 0))), (q4, .inl (cA, 3, .inl (fun _ => 0)))] H := hP
  have hD : va_D A [(h0, .inr (0, [.int 0, .ref q1, .int 0, .ref q2, .ref q3, .null, .null, .null])), (q1, .inl (cA, 10, .inl (fun _ => 0))), (q2, .inl (cA, 14, .inl (fun _ => 0))), (q3, .inl (cA, 3, .inl (fun _ => 0))), (q4, .inl (cA, 3, .inl (fun _ => 0)))] := hD
  refine va_putF (D := (dC, dI)) (ci := 0) (v := .ref q4) (ty := .array .int) (C := R_X) (T := F_X) (N := 8) hx hb hts i_X t_X t_X_ok n_X hown hK hP hD hS 0 rfl rfl 5 (by decide) (hts _ tf_X_columns) (fun _ h9 => h9) rfl hin rfl (by decide +kernel) rfl rfl (Nat.le_of_ble_eq_true rfl) d_X_init_31 (fun H locs hP hD hS => ?_)
  have hP : va_P (dC, dI) classes [(h0, .inr (0, [.int 0, .ref q1, .int 0, .ref q2, .ref q3, .ref q4, .null, .null])), (q1, .inl (cA, 10, .inl (fun _ => 0))), (q2, .inl (cA, 14, .inl (fun _ => 0))), (q3, .inl (cA, 3, .inl (fun _ => 0))), (q4, .inl (cA, 3, .inl (fun _ => 0)))] H := hP
  have hD : va_D A [(h0, .inr (0, [.int 0, .ref q1, .int 0, .ref q2, .ref q3, .ref q4, .null, .null])), (q1, .inl (cA, 10, .inl (fun _ => 0))), (q2, .inl (cA, 14, .inl (fun _ => 0))), (q3, .inl (cA, 3, .inl (fun _ => 0))), (q4, .inl (cA, 3, .inl (fun _ => 0)))] := hD
  refine lv_aload_n hx hb d_X_init_34 rfl (lv_at hl 0 rfl) ?_
  refine lv_bipush (v := nI 60) hx hb d_X_init_35 (by decide) ?_
  refine va_newa (atype := .int) (a0 := (60, .inl (fun _ => 0))) (ty := .int) hx hb (hts _ ta_int) rfl hK hP hD hS hA (fun _ => rfl) (nI_pos (by decide)) (nI_clamp (by decide)) (by decide) (Nat.le_of_ble_eq_true rfl) (Nat.le_of_ble_eq_true rfl) d_X_init_37 (fun q5 cB H hK hP hD hS => ?_)
  obtain rfl : cB = cA := cA_one (i := 0) (j := 1) hK rfl rfl
  have hK := hK.sub (tys' := [(cB, .int)]) [0] rfl
  generalize cB = cA at hK hP hD
  have hK : va_K (dC, dI) classes [(cA, .int)] s := hK
  have hP : va_P (dC, dI) classes [(h0, .inr (0, [.int 0, .ref q1, .int 0, .ref q2, .ref q3, .ref q4, .null, .null])), (q1, .inl (cA, 10, .inl (fun _ => 0))), (q2, .inl (cA, 14, .inl (fun _ => 0))), (q3, .inl (cA, 3, .inl (fun _ => 0))), (q4, .inl (cA, 3, .inl (fun _ => 0))), (q5, .inl (cA, 60, .inl (fun _ => 0)))] H := hP
  have hD : va_D A [(h0, .inr (0, [.int 0, .ref q1, .int 0, .ref q2, .ref q3, .ref q4, .null, .null])), (q1, .inl (cA, 10, .inl (fun _ => 0))), (q2, .inl (cA, 14, .inl (fun _ => 0))), (q3, .inl (cA, 3, .inl (fun _ => 0))), (q4, .inl (cA, 3, .inl (fun _ => 0))), (q5, .inl (cA, 60, .inl (fun _ => 0)))] := hD
  refine va_putF (D := (dC, dI)) (ci := 0) (v := .ref q5) (ty := .array .int) (C := R_X) (T := F_X) (N := 8) hx hb hts i_X t_X t_X_ok n_X hown hK hP hD hS 0 rfl rfl 6 (by decide) (hts _ tf_X_right) (fun _ h9 => h9) rfl hin rfl (by decide +kernel) rfl rfl (Nat.le_of_ble_eq_true rfl) d_X_init_39 (fun H locs hP hD hS => ?_)
  have hP : va_P (dC, dI) classes [(h0, .inr (0, [.int 0, .ref q1, .int 0, .ref q2, .ref q3, .ref q4, .ref q5, .null])), (q1, .inl (cA, 10, .inl (fun _ => 0))), (q2, .inl (cA, 14, .inl (fun _ => 0))), (q3, .inl (cA, 3, .inl (fun _ => 0))), (q4, .inl (cA, 3, .inl (fun _ => 0))), (q5, .inl (cA, 60, .inl (fun _ => 0)))] H := hP
  have hD : va_D A [(h0, .inr (0, [.int 0, .ref q1, .int 0, .ref q2, .ref q3, .ref q4, .ref q5, .null])), (q1, .inl (cA, 10, .inl (fun _ => 0))), (q2, .inl (cA, 14, .inl (fun _ => 0))), (q3, .inl (cA, 3, .inl (fun _ => 0))), (q4, .inl (cA, 3, .inl (fun _ => 0))), (q5, .inl (cA, 60, .inl (fun _ => 0)))] := hD
  refine lv_aload_n hx hb d_X_init_42 rfl (lv_at hl 0 rfl) ?_
  refine lv_bipush (v := nI 84) hx hb d_X_init_43 (by decide) ?_
  refine va_newa (atype := .int) (a0 := (84, .inl (fun _ => 0))) (ty := .int) hx hb (hts _ ta_int) rfl hK hP hD hS hA (fun _ => rfl) (nI_pos (by decide)) (nI_clamp (by decide)) (by decide) (Nat.le_of_ble_eq_true rfl) (Nat.le_of_ble_eq_true rfl) d_X_init_45 (fun q6 cB H hK hP hD hS => ?_)
  obtain rfl : cB = cA := cA_one (i := 0) (j := 1) hK rfl rfl
  have hK := hK.sub (tys' := [(cB, .int)]) [0] rfl
  generalize cB = cA at hK hP hD
  have hK : va_K (dC, dI) classes [(cA, .int)] s := hK
  have hP : va_P (dC, dI) classes [(h0, .inr (0, [.int 0, .ref q1, .int 0, .ref q2, .ref q3, .ref q4, .ref q5, .null])), (q1, .inl (cA, 10, .inl (fun _ => 0))), (q2, .inl (cA, 14, .inl (fun _ => 0))), (q3, .inl (cA, 3, .inl (fun _ => 0))), (q4, .inl (cA, 3, .inl (fun _ => 0))), (q5, .inl (cA, 60, .inl (fun _ => 0))), (q6, .inl (cA, 84, .inl (fun _ => 0)))] H := hP
  have hD : va_D A [(h0, .inr (0, [.int 0, .ref q1, .int 0, .ref q2, .ref q3, .ref q4, .ref q5, .null])), (q1, .inl (cA, 10, .inl (fun _ => 0))), (q2, .inl (cA, 14, .inl (fun _ => 0))), (q3, .inl (cA, 3, .inl (fun _ => 0))), (q4, .inl (cA, 3, .inl (fun _ => 0))), (q5, .inl (cA, 60, .inl (fun _ => 0))), (q6, .inl (cA, 84, .inl (fun _ => 0)))] := hD
  refine va_putF (D := (dC, dI)) (ci := 0) (v := .ref q6) (ty := .array .int) (C := R_X) (T := F_X) (N := 8) hx hb hts i_X t_X t_X_ok n_X hown hK hP hD hS 0 rfl rfl 7 (by decide) (hts _ tf_X_down) (fun _ h9 => h9) rfl hin rfl (by decide +kernel) rfl rfl (Nat.le_of_ble_eq_true rfl) d_X_init_47 (fun H locs hP hD hS => ?_)
  have hP : va_P (dC, dI) classes [(h0, .inr (0, [.int 0, .ref q1, .int 0, .ref q2, .ref q3, .ref q4, .ref q5, .ref q6])), (q1, .inl (cA, 10, .inl (fun _ => 0))), (q2, .inl (cA, 14, .inl (fun _ => 0))), (q3, .inl (cA, 3, .inl (fun _ => 0))), (q4, .inl (cA, 3, .inl (fun _ => 0))), (q5, .inl (cA, 60, .inl (fun _ => 0))), (q6, .inl (cA, 84, .inl (fun _ => 0)))] H := hP
  have hD : va_D A [(h0, .inr (0, [.int 0, .ref q1, .int 0, .ref q2, .ref q3, .ref q4, .ref q5, .ref q6])), (q1, .inl (cA, 10, .inl (fun _ => 0))), (q2, .inl (cA, 14, .inl (fun _ => 0))), (q3, .inl (cA, 3, .inl (fun _ => 0))), (q4, .inl (cA, 3, .inl (fun _ => 0))), (q5, .inl (cA, 60, .inl (fun _ => 0))), (q6, .inl (cA, 84, .inl (fun _ => 0)))] := hD
  exact W.vret hx hb hr (fun t ht hW => ⟨⟨((fun k => match k with | 0 => h0 | 1 => q1 | 2 => q2 | 3 => q3 | 4 => q4 | 5 => q5 | _ => q6), cA), rfl, rfl, by rw [ht]; exact hP, va_K.moved hW.alike hK, hD⟩, hS.F ht⟩) hS.2.2 d_X_init_50
set_option maxHeartbeats 4000000 in
set_option maxRecDepth 100000 in
theorem c_Y_init (l : Launch) (dC : Nat → ClassId) (dI : Nat → Nat → Nat) (h0 sz : Nat) : Met l y_Y_init (Cond.code y_Y_init b_Y_init 1 none :: tb_ws) ({ frames := 1, cells := 4, slots := 414, locals := 12 }) (va_Pc [.ref h0] (fun U => U.heap.size = sz ∧ va_P (dC, dI) classes [(h0, .inr (1, [.null, .null, .int 0, .int 0, .null, .null]))] U.heap ∧ va_K (dC, dI) classes [] U ∧ va_D (fun _ => True) [(h0, .inr (1, [.null, .null, .int 0, .int 0, .null, .null]))])) (va_Qv (fun u : (Nat → Nat) × ClassId => u.1 0 = h0) (fun u t => va_P (dC, dI) classes (YW 0 0 (fun _ => 0) (fun _ => 0) (fun _ => 0) (fun _ => 0) u.1 u.2) t.heap ∧ va_K (dC, dI) classes [(u.2, .int)] t ∧ va_D (va_A [(h0, .inr (1, [.null, .null, .int 0, .int 0, .null, .null]))] sz) (YW 0 0 (fun _ => 0) (fun _ => 0) (fun _ => 0) (fun _ => 0) u.1 u.2)) (va_A [(h0, .inr (1, [.null, .null, .int 0, .int 0, .null, .null]))] sz)) 4 414 (va_A [(h0, .inr (1, [.null, .null, .int 0, .int 0, .null, .null]))] sz) := by
  refine Met.ofW (cc := b_Y_init) (maxL := 1) (ret := none) (by decide) rfl ?_
  intro p e s m args below meth c s₁ B hml hv
  obtain ⟨rfl, hsz, hP, hK, hD0⟩ := hv
  have hx := B.exec
  have hb := B.bytes
  have hr := B.returns
  have hts0 := atoms_spec (ws := Cond.code y_Y_init b_Y_init 1 none :: tb_ws) B.pre
  have hts : ∀ w ∈ tb_ws, w.before _ s = true := fun w hw => hts0 w (List.mem_cons_of_mem _ hw)
  have hown : s.vm.findClass R_Y = some m.cls := findClass_of_methodNamed B.named
  have hlocks := B.notSynchronized
  have hin : meth.name = "<init>" := (name_of_methodNamed B.named B.method).1
  subst hsz
  have hD := hD0.self (sz := s.heap.size)
  generalize hAe : va_A [(h0, .inr (1, [.null, .null, .int 0, .int 0, .null, .null]))] s.heap.size = A at hD ⊢
  have hA : ∀ q : Nat, s.heap.size ≤ q → A q := fun q h => by rw [← hAe]; exact Or.inr h
  have hS : va_S A s.heap s.heap [] := va_S.rf
  have hP : va_P (dC, dI) classes [(h0, .inr (1, [.null, .null, .int 0, .int 0, .null, .null]))] s.heap := hP
  have hl := lv_entry ([.ref h0]) (n := 1) (Nat.le_of_ble_eq_true rfl)
  rw [lg_entry_eq]
  generalize (lg_sl ([.ref h0]) ++ List.replicate (1 - (lg_sl ([.ref h0])).length) Slot.unset).toArray = ls at hl ⊢
  have hl : lv_has ls 1 [(0, .ref h0)] := hl
  refine lv_aload_n hx hb d_Y_init_0 rfl (lv_at hl 0 rfl) ?_
  refine W.objInit hx hb hown (hts _ tl_Y_1) (hts _ ti_object) (hts _ tc_object) rfl (by rw [hml]; exact hl.1) rfl d_Y_init_1 (Nat.le_of_ble_eq_true rfl) (Nat.le_of_ble_eq_true rfl) ?_
  refine W.eq (g2 := F0 m 4 ls []) rfl ?_
  refine lv_aload_n hx hb d_Y_init_4 rfl (lv_at hl 0 rfl) ?_
  refine lv_bipush (v := nI 10) hx hb d_Y_init_5 (by decide) ?_
  refine va_newa (atype := .int) (a0 := (10, .inl (fun _ => 0))) (ty := .int) hx hb (hts _ ta_int) rfl hK hP hD hS hA (fun _ => rfl) (nI_pos (by decide)) (nI_clamp (by decide)) (by decide) (Nat.le_of_ble_eq_true rfl) (Nat.le_of_ble_eq_true rfl) d_Y_init_7 (fun q1 cA H hK hP hD hS => ?_)
  have hK : va_K (dC, dI) classes [(cA, .int)] s := hK
  have hP : va_P (dC, dI) classes [(h0, .inr (1, [.null, .null, .int 0, .int 0, .null, .null])), (q1, .inl (cA, 10, .inl (fun _ => 0)))] H := hP
  have hD : va_D A [(h0, .inr (1, [.null, .null, .int 0, .int 0, .null, .null])), (q1, .inl (cA, 10, .inl (fun _ => 0)))] := hD
  refine va_putF (D := (dC, dI)) (ci := 1) (v := .ref q1) (ty := .array .int) (C := R_Y) (T := F_Y) (N := 6) hx hb hts i_Y t_Y t_Y_ok n_Y hown hK hP hD hS 0 rfl rfl 0 (by decide) (hts _ tf_Y_a) (fun _ h9 => h9) rfl hin rfl (by decide +kernel) rfl rfl (Nat.le_of_ble_eq_true rfl) d_Y_init_9 (fun H locs hP hD hS => ?_)
  have hP : va_P (dC, dI) classes [(h0, .inr (1, [.ref q1, .null, .int 0, .int 0, .null, .null])), (q1, .inl (cA, 10, .inl (fun _ => 0)))] H := hP
  have hD : va_D A [(h0, .inr (1, [.ref q1, .null, .int 0, .int 0, .null, .null])), (q1, .inl (cA, 10, .inl (fun _ => 0)))] := hD
  refine lv_aload_n hx hb d_Y_init_12 rfl (lv_at hl 0 rfl) ?_
  refine lv_bipush (v := nI 14) hx hb d_Y_init_13 (by decide) ?_
  refine va_newa (atype := .int) (a0 := (14, .inl (fun _ => 0))) (ty := .int) hx hb (hts _ ta_int) rfl hK hP hD hS hA (fun _ => rfl) (nI_pos (by decide)) (nI_clamp (by decide)) (by decide) (Nat.le_of_ble_eq_true rfl) (Nat.le_of_ble_eq_true rfl) d_Y_init_15 (fun q2 cB H hK hP hD hS => ?_)
  obtain rfl : cB = cA := cA_one (i := 0) (j := 1) hK rfl rfl
  have hK := hK.sub (tys' := [(cB, .int)]) [0] rfl
  generalize cB = cA at hK hP hD
  have hK : va_K (dC, dI) classes [(cA, .int)] s := hK
  have hP : va_P (dC, dI) classes [(h0, .inr (1, [.ref q1, .null, .int 0, .int 0, .null, .null])), (q1, .inl (cA, 10, .inl (fun _ => 0))), (q2, .inl (cA, 14, .inl (fun _ => 0)))] H := hP
  have hD : va_D A [(h0, .inr (1, [.ref q1, .null, .int 0, .int 0, .null, .null])), (q1, .inl (cA, 10, .inl (fun _ => 0))), (q2, .inl (cA, 14, .inl (fun _ => 0)))] := hD
  refine va_putF (D := (dC, dI)) (ci := 1) (v := .ref q2) (ty := .array .int) (C := R_Y) (T := F_Y) (N := 6) hx hb hts i_Y t_Y t_Y_ok n_Y hown hK hP hD hS 0 rfl rfl 1 (by decide) (hts _ tf_Y_b) (fun _ h9 => h9) rfl hin rfl (by decide +kernel) rfl rfl (Nat.le_of_ble_eq_true rfl) d_Y_init_17 (fun H locs hP hD hS => ?_)
  have hP : va_P (dC, dI) classes [(h0, .inr (1, [.ref q1, .ref q2, .int 0, .int 0, .null, .null])), (q1, .inl (cA, 10, .inl (fun _ => 0))), (q2, .inl (cA, 14, .inl (fun _ => 0)))] H := hP
  have hD : va_D A [(h0, .inr (1, [.ref q1, .ref q2, .int 0, .int 0, .null, .null])), (q1, .inl (cA, 10, .inl (fun _ => 0))), (q2, .inl (cA, 14, .inl (fun _ => 0)))] := hD
  refine lv_aload_n hx hb d_Y_init_20 rfl (lv_at hl 0 rfl) ?_
  refine lv_sipush (v := nI 165) hx hb d_Y_init_21 (by decide) ?_
  refine va_newa (atype := .int) (a0 := (165, .inl (fun _ => 0))) (ty := .int) hx hb (hts _ ta_int) rfl hK hP hD hS hA (fun _ => rfl) (nI_pos (by decide)) (nI_clamp (by decide)) (by decide) (Nat.le_of_ble_eq_true rfl) (Nat.le_of_ble_eq_true rfl) d_Y_init_24 (fun q3 cB H hK hP hD hS => ?_)
  obtain rfl : cB = cA := cA_one (i := 0) (j := 1) hK rfl rfl
  have hK := hK.sub (tys' := [(cB, .int)]) [0] rfl
  generalize cB = cA at hK hP hD
  have hK : va_K (dC, dI) classes [(cA, .int)] s := hK
  have hP : va_P (dC, dI) classes [(h0, .inr (1, [.ref q1, .ref q2, .int 0, .int 0, .null, .null])), (q1, .inl (cA, 10, .inl (fun _ => 0))), (q2, .inl (cA, 14, .inl (fun _ => 0))), (q3, .inl (cA, 165, .inl (fun _ => 0)))] H := hP
  have hD : va_D A [(h0, .inr (1, [.ref q1, .ref q2, .int 0, .int 0, .null, .null])), (q1, .inl (cA, 10, .inl (fun _ => 0))), (q2, .inl (cA, 14, .inl (fun _ => 0))), (q3, .inl (cA, 165, .inl (fun _ => 0)))] := hD
  refine va_putF (D := (dC, dI)) (ci := 1) (v := .ref q3) (ty := .array .int) (C := R_Y) (T := F_Y) (N := 6) hx hb hts i_Y t_Y t_Y_ok n_Y hown hK hP hD hS 0 rfl rfl 4 (by decide) (hts _ tf_Y_table) (fun _ h9 => h9) rfl hin rfl (by decide +kernel) rfl rfl (Nat.le_of_ble_eq_true rfl) d_Y_init_26 (fun H locs hP hD hS => ?_)
  have hP : va_P (dC, dI) classes [(h0, .inr (1, [.ref q1, .ref q2, .int 0, .int 0, .ref q3, .null])), (q1, .inl (cA, 10, .inl (fun _ => 0))), (q2, .inl (cA, 14, .inl (fun _ => 0))), (q3, .inl (cA, 165, .inl (fun _ => 0)))] H := hP
  have hD : va_D A [(h0, .inr (1, [.ref q1, .ref q2, .int 0, .int 0, .ref q3, .null])), (q1, .inl (cA, 10, .inl (fun _ => 0))), (q2, .inl (cA, 14, .inl (fun _ => 0))), (q3, .inl (cA, 165, .inl (fun _ => 0)))] := hD
  refine lv_aload_n hx hb d_Y_init_29 rfl (lv_at hl 0 rfl) ?_
  refine lv_sipush (v := nI 225) hx hb d_Y_init_30 (by decide) ?_
  refine va_newa (atype := .int) (a0 := (225, .inl (fun _ => 0))) (ty := .int) hx hb (hts _ ta_int) rfl hK hP hD hS hA (fun _ => rfl) (nI_pos (by decide)) (nI_clamp (by decide)) (by decide) (Nat.le_of_ble_eq_true rfl) (Nat.le_of_ble_eq_true rfl) d_Y_init_33 (fun q4 cB H hK hP hD hS => ?_)
  obtain rfl : cB = cA := cA_one (i := 0) (j := 1) hK rfl rfl
  have hK := hK.sub (tys' := [(cB, .int)]) [0] rfl
  generalize cB = cA at hK hP hD
  have hK : va_K (dC, dI) classes [(cA, .int)] s := hK
  have hP : va_P (dC, dI) classes [(h0, .inr (1, [.ref q1, .ref q2, .int 0, .int 0, .ref q3, .null])), (q1, .inl (cA, 10, .inl (fun _ => 0))), (q2, .inl (cA, 14, .inl (fun _ => 0))), (q3, .inl (cA, 165, .inl (fun _ => 0))), (q4, .inl (cA, 225, .inl (fun _ => 0)))] H := hP
  have hD : va_D A [(h0, .inr (1, [.ref q1, .ref q2, .int 0, .int 0, .ref q3, .null])), (q1, .inl (cA, 10, .inl (fun _ => 0))), (q2, .inl (cA, 14, .inl (fun _ => 0))), (q3, .inl (cA, 165, .inl (fun _ => 0))), (q4, .inl (cA, 225, .inl (fun _ => 0)))] := hD
  refine va_putF (D := (dC, dI)) (ci := 1) (v := .ref q4) (ty := .array .int) (C := R_Y) (T := F_Y) (N := 6) hx hb hts i_Y t_Y t_Y_ok n_Y hown hK hP hD hS 0 rfl rfl 5 (by decide) (hts _ tf_Y_of) (fun _ h9 => h9) rfl hin rfl (by decide +kernel) rfl rfl (Nat.le_of_ble_eq_true rfl) d_Y_init_35 (fun H locs hP hD hS => ?_)
  have hP : va_P (dC, dI) classes [(h0, .inr (1, [.ref q1, .ref q2, .int 0, .int 0, .ref q3, .ref q4])), (q1, .inl (cA, 10, .inl (fun _ => 0))), (q2, .inl (cA, 14, .inl (fun _ => 0))), (q3, .inl (cA, 165, .inl (fun _ => 0))), (q4, .inl (cA, 225, .inl (fun _ => 0)))] H := hP
  have hD : va_D A [(h0, .inr (1, [.ref q1, .ref q2, .int 0, .int 0, .ref q3, .ref q4])), (q1, .inl (cA, 10, .inl (fun _ => 0))), (q2, .inl (cA, 14, .inl (fun _ => 0))), (q3, .inl (cA, 165, .inl (fun _ => 0))), (q4, .inl (cA, 225, .inl (fun _ => 0)))] := hD
  exact W.vret hx hb hr (fun t ht hW => ⟨⟨((fun k => match k with | 0 => h0 | 1 => q1 | 2 => q2 | 3 => q3 | _ => q4), cA), rfl, rfl, by rw [ht]; exact hP, va_K.moved hW.alike hK, hD⟩, hS.F ht⟩) hS.2.2 d_Y_init_38
end
section
/-! THE LAW, case by case; printed by gen_law.py -/
/-- what the law's walk knows -/
def LC (p : Program) (s : State) (mi : MethodId) (args : Array Value) (c : Code) (b L : Nat) (xs : Nat → Int32) (dC : Nat → ClassId) (dI : Nat → Nat → Nat) (cA : ClassId) (A : Nat → Prop) : Prop := CK p s mi args c code 4 dC dI cA A R_law ∧ va_X b L xs s s.heap ∧ b < s.heap.size ∧ ¬ A b ∧ L ≤ 1536
/-- THE LAW'S INVARIANT: both hold the same words; the class's braids are combed -/
def LI (s : State) (dC : Nat → ClassId) (dI : Nat → Nat → Nat) (A : Nat → Prop) (qx qy : Nat → Nat) (cA : ClassId) (m n : Nat) (fa fb fr fc fR fD ft fo : Nat → Int32) (H : Heap) (locs : List Loc) : Prop := WK s dC dI A (XW (nI m) (nI n) fa fb fr fc fR fD qx cA) H locs ∧ WK s dC dI A (YW (nI m) (nI n) fa fb ft fo qy cA) H locs ∧ AP (XW (nI m) (nI n) fa fb fr fc fR fD qx cA) (YW (nI m) (nI n) fa fb ft fo qy cA) ∧ sw_inv m n fa fb fr fc fR fD ∧ sw_let m n fa fb
set_option maxHeartbeats 4000000 in
set_option maxRecDepth 100000 in
theorem law_growA {p : Program} {l : Launch} {e : Env} {s : State} {mi : MethodId} {args : Array Value} {below : List Frame} {meth : Method} {c : Code} {H : Heap} {locs : List Loc} {Q : State → Prop} {ls : Array Slot} {dC : Nat → ClassId} {dI : Nat → Nat → Nat} {cA : ClassId} {A : Nat → Prop} {qx qy : Nat → Nat} {b L i : Nat} {xs : Nat → Int32} {m n : Nat} {fa fb fr fc fR fD ft fo : Nat → Int32} (C0 : LC p s mi args c b L xs dC dI cA A) (hI : LI s dC dI A qx qy cA m n fa fb fr fc fR fD ft fo H locs) (hi : i + 3 ≤ L) (hl : lv_has ls 4 [(0, .ref b), (1, .ref (qx 0)), (2, .ref (qy 0)), (3, .int (nI i))]) (next : ∀ (m n : Nat) (fa fb fr fc fR fD ft fo : Nat → Int32) (H : Heap) (locs : List Loc), LI s dC dI A qx qy cA m n fa fb fr fc fR fD ft fo H locs → W p l e room_1 s mi args below meth c H locs 12 602 Q (F0 mi 532 ls [])) : W p l e room_1 s mi args below meth c H locs 12 602 Q (F0 mi 120 ls []) := by
  obtain ⟨C, hX0, hbl, hbA, hL⟩ := C0
  obtain ⟨hX, hY, hap, hv, hlt⟩ := hI
  have hm : m ≤ 10 := hv.1
  have hn : n ≤ 14 := hv.2.1
  have hx := C.1
  have hb := C.2.1
  refine lv_aload_n hx hb d_law_120 rfl (lv_at hl 1 rfl) ?_
  refine lv_aload_n hx hb d_law_121 rfl (lv_at hl 0 rfl) ?_
  refine lv_iload_n hx hb d_law_122 rfl (lv_at hl 3 rfl) ?_
  refine lv_iconst (v := nI 1) hx hb d_law_123 (by decide) ?_
  refine ni_add hx hb d_law_124 ?_
  refine sl_ld hx hb hX0 hbl hbA hX (i + 1) (by omega) hL d_law_125 ?_
  refine cl_i (n := 1) (ci := 0) (rest := []) C hX hY hap (c_X_growA (x := xs (i + 1)) hv) rfl rfl (tb_goodIn tl_law_13 ti_X_growA ts_X_growA tn_X tc_X_growA) (by decide +kernel) ⟨Nat.le_of_ble_eq_true rfl, Nat.le_of_ble_eq_true rfl⟩ rfl hl rfl (Nat.le_of_ble_eq_true rfl) ⟨Nat.le_refl _, Nat.le_refl _⟩ d_law_126 (fun r u H locs hp hX hY hap => ?_)
  refine lv_aload_n hx hb d_law_129 rfl (lv_at hl 2 rfl) ?_
  refine lv_aload_n hx hb d_law_130 rfl (lv_at hl 0 rfl) ?_
  refine lv_iload_n hx hb d_law_131 rfl (lv_at hl 3 rfl) ?_
  refine lv_iconst (v := nI 1) hx hb d_law_132 (by decide) ?_
  refine ni_add hx hb d_law_133 ?_
  refine sl_ld hx hb hX0 hbl hbA hX (i + 1) (by omega) hL d_law_134 ?_
  refine cl_i (n := 1) (ci := 1) (rest := [.int r]) C hY hX hap.sy (c_Y_growA (x := xs (i + 1)) hm hn) rfl rfl (tb_goodIn tl_law_17 ti_Y_growA ts_Y_growA tn_Y tc_Y_growA) (by decide +kernel) ⟨Nat.le_of_ble_eq_true rfl, Nat.le_of_ble_eq_true rfl⟩ rfl hl rfl (Nat.le_of_ble_eq_true rfl) ⟨Nat.le_refl _, Nat.le_refl _⟩ d_law_135 (fun r2 u2 H locs hp2 hY hX hap => ?_)
  have e9 : (r, u.1) = (r2, u2) := hp.1.trans hp2.symm
  have e1 : r = r2 := congrArg Prod.fst e9
  have e2 : u2 = u.1 := (congrArg Prod.snd e9).symm
  subst e2
  have hlt2 : sw_letT u.1 := by rw [show u.1 = (se_growA (m, n, fa, fb) (xs (i + 1))).2 from congrArg Prod.snd hp.1]; exact sw_let_growA hlt
  refine lv_icmp_eq (tgt := 532) hx hb d_law_138 (by decide) (fun c1 => ?_) (fun c1 => ?_)
  · exact next u.1.1 u.1.2.1 u.1.2.2.1 u.1.2.2.2 u.2.1 u.2.2.1 u.2.2.2.1 u.2.2.2.2 ft fo _ _ ⟨hX, hY, hap.sy, hp.2, hlt2⟩
  · exact absurd e1 c1
set_option maxHeartbeats 4000000 in
set_option maxRecDepth 100000 in
theorem law_growB {p : Program} {l : Launch} {e : Env} {s : State} {mi : MethodId} {args : Array Value} {below : List Frame} {meth : Method} {c : Code} {H : Heap} {locs : List Loc} {Q : State → Prop} {ls : Array Slot} {dC : Nat → ClassId} {dI : Nat → Nat → Nat} {cA : ClassId} {A : Nat → Prop} {qx qy : Nat → Nat} {b L i : Nat} {xs : Nat → Int32} {m n : Nat} {fa fb fr fc fR fD ft fo : Nat → Int32} (C0 : LC p s mi args c b L xs dC dI cA A) (hI : LI s dC dI A qx qy cA m n fa fb fr fc fR fD ft fo H locs) (hi : i + 3 ≤ L) (hl : lv_has ls 4 [(0, .ref b), (1, .ref (qx 0)), (2, .ref (qy 0)), (3, .int (nI i))]) (next : ∀ (m n : Nat) (fa fb fr fc fR fD ft fo : Nat → Int32) (H : Heap) (locs : List Loc), LI s dC dI A qx qy cA m n fa fb fr fc fR fD ft fo H locs → W p l e room_1 s mi args below meth c H locs 12 602 Q (F0 mi 532 ls [])) : W p l e room_1 s mi args below meth c H locs 12 602 Q (F0 mi 143 ls []) := by
  obtain ⟨C, hX0, hbl, hbA, hL⟩ := C0
  obtain ⟨hX, hY, hap, hv, hlt⟩ := hI
  have hm : m ≤ 10 := hv.1
  have hn : n ≤ 14 := hv.2.1
  have hx := C.1
  have hb := C.2.1
  refine lv_aload_n hx hb d_law_143 rfl (lv_at hl 1 rfl) ?_
  refine lv_aload_n hx hb d_law_144 rfl (lv_at hl 0 rfl) ?_
  refine lv_iload_n hx hb d_law_145 rfl (lv_at hl 3 rfl) ?_
  refine lv_iconst (v := nI 1) hx hb d_law_146 (by decide) ?_
  refine ni_add hx hb d_law_147 ?_
  refine sl_ld hx hb hX0 hbl hbA hX (i + 1) (by omega) hL d_law_148 ?_
  refine cl_i (n := 1) (ci := 0) (rest := []) C hX hY hap (c_X_growB (x := xs (i + 1)) hv) rfl rfl (tb_goodIn tl_law_18 ti_X_growB ts_X_growB tn_X tc_X_growB) (by decide +kernel) ⟨Nat.le_of_ble_eq_true rfl, Nat.le_of_ble_eq_true rfl⟩ rfl hl rfl (Nat.le_of_ble_eq_true rfl) ⟨Nat.le_refl _, Nat.le_refl _⟩ d_law_149 (fun r u H locs hp hX hY hap => ?_)
  refine lv_aload_n hx hb d_law_152 rfl (lv_at hl 2 rfl) ?_
  refine lv_aload_n hx hb d_law_153 rfl (lv_at hl 0 rfl) ?_
  refine lv_iload_n hx hb d_law_154 rfl (lv_at hl 3 rfl) ?_
  refine lv_iconst (v := nI 1) hx hb d_law_155 (by decide) ?_
  refine ni_add hx hb d_law_156 ?_
  refine sl_ld hx hb hX0 hbl hbA hX (i + 1) (by omega) hL d_law_157 ?_
  refine cl_i (n := 1) (ci := 1) (rest := [.int r]) C hY hX hap.sy (c_Y_growB (x := xs (i + 1)) hm hn) rfl rfl (tb_goodIn tl_law_21 ti_Y_growB ts_Y_growB tn_Y tc_Y_growB) (by decide +kernel) ⟨Nat.le_of_ble_eq_true rfl, Nat.le_of_ble_eq_true rfl⟩ rfl hl rfl (Nat.le_of_ble_eq_true rfl) ⟨Nat.le_refl _, Nat.le_refl _⟩ d_law_158 (fun r2 u2 H locs hp2 hY hX hap => ?_)
  have e9 : (r, u.1) = (r2, u2) := hp.1.trans hp2.symm
  have e1 : r = r2 := congrArg Prod.fst e9
  have e2 : u2 = u.1 := (congrArg Prod.snd e9).symm
  subst e2
  have hlt2 : sw_letT u.1 := by rw [show u.1 = (se_growB (m, n, fa, fb) (xs (i + 1))).2 from congrArg Prod.snd hp.1]; exact sw_let_growB hlt
  refine lv_icmp_eq (tgt := 532) hx hb d_law_161 (by decide) (fun c1 => ?_) (fun c1 => ?_)
  · exact next u.1.1 u.1.2.1 u.1.2.2.1 u.1.2.2.2 u.2.1 u.2.2.1 u.2.2.2.1 u.2.2.2.2 ft fo _ _ ⟨hX, hY, hap.sy, hp.2, hlt2⟩
  · exact absurd e1 c1
set_option maxHeartbeats 4000000 in
set_option maxRecDepth 100000 in
theorem law_putA {p : Program} {l : Launch} {e : Env} {s : State} {mi : MethodId} {args : Array Value} {below : List Frame} {meth : Method} {c : Code} {H : Heap} {locs : List Loc} {Q : State → Prop} {ls : Array Slot} {dC : Nat → ClassId} {dI : Nat → Nat → Nat} {cA : ClassId} {A : Nat → Prop} {qx qy : Nat → Nat} {b L i : Nat} {xs : Nat → Int32} {m n : Nat} {fa fb fr fc fR fD ft fo : Nat → Int32} (C0 : LC p s mi args c b L xs dC dI cA A) (hI : LI s dC dI A qx qy cA m n fa fb fr fc fR fD ft fo H locs) (hi : i + 3 ≤ L) (hl : lv_has ls 4 [(0, .ref b), (1, .ref (qx 0)), (2, .ref (qy 0)), (3, .int (nI i))]) (next : ∀ (m n : Nat) (fa fb fr fc fR fD ft fo : Nat → Int32) (H : Heap) (locs : List Loc), LI s dC dI A qx qy cA m n fa fb fr fc fR fD ft fo H locs → W p l e room_1 s mi args below meth c H locs 12 602 Q (F0 mi 532 ls [])) : W p l e room_1 s mi args below meth c H locs 12 602 Q (F0 mi 166 ls []) := by
  obtain ⟨C, hX0, hbl, hbA, hL⟩ := C0
  obtain ⟨hX, hY, hap, hv, hlt⟩ := hI
  have hm : m ≤ 10 := hv.1
  have hn : n ≤ 14 := hv.2.1
  have hx := C.1
  have hb := C.2.1
  refine lv_aload_n hx hb d_law_166 rfl (lv_at hl 1 rfl) ?_
  refine lv_aload_n hx hb d_law_167 rfl (lv_at hl 0 rfl) ?_
  refine lv_iload_n hx hb d_law_168 rfl (lv_at hl 3 rfl) ?_
  refine lv_iconst (v := nI 1) hx hb d_law_169 (by decide) ?_
  refine ni_add hx hb d_law_170 ?_
  refine sl_ld hx hb hX0 hbl hbA hX (i + 1) (by omega) hL d_law_171 ?_
  refine lv_aload_n hx hb d_law_172 rfl (lv_at hl 0 rfl) ?_
  refine lv_iload_n hx hb d_law_173 rfl (lv_at hl 3 rfl) ?_
  refine lv_iconst (v := nI 2) hx hb d_law_174 (by decide) ?_
  refine ni_add hx hb d_law_175 ?_
  refine sl_ld hx hb hX0 hbl hbA hX (i + 2) (by omega) hL d_law_176 ?_
  refine cl_i (n := 2) (ci := 0) (rest := []) C hX hY hap (c_X_putA (i := xs (i + 1)) (x := xs (i + 2)) hv) rfl rfl (tb_goodIn tl_law_22 ti_X_putA ts_X_putA tn_X tc_X_putA) (by decide +kernel) ⟨Nat.le_of_ble_eq_true rfl, Nat.le_of_ble_eq_true rfl⟩ rfl hl rfl (Nat.le_of_ble_eq_true rfl) ⟨Nat.le_refl _, Nat.le_refl _⟩ d_law_177 (fun r u H locs hp hX hY hap => ?_)
  refine lv_aload_n hx hb d_law_180 rfl (lv_at hl 2 rfl) ?_
  refine lv_aload_n hx hb d_law_181 rfl (lv_at hl 0 rfl) ?_
  refine lv_iload_n hx hb d_law_182 rfl (lv_at hl 3 rfl) ?_
  refine lv_iconst (v := nI 1) hx hb d_law_183 (by decide) ?_
  refine ni_add hx hb d_law_184 ?_
  refine sl_ld hx hb hX0 hbl hbA hX (i + 1) (by omega) hL d_law_185 ?_
  refine lv_aload_n hx hb d_law_186 rfl (lv_at hl 0 rfl) ?_
  refine lv_iload_n hx hb d_law_187 rfl (lv_at hl 3 rfl) ?_
  refine lv_iconst (v := nI 2) hx hb d_law_188 (by decide) ?_
  refine ni_add hx hb d_law_189 ?_
  refine sl_ld hx hb hX0 hbl hbA hX (i + 2) (by omega) hL d_law_190 ?_
  refine cl_i (n := 2) (ci := 1) (rest := [.int r]) C hY hX hap.sy (c_Y_putA (i := xs (i + 1)) (x := xs (i + 2)) hm hn) rfl rfl (tb_goodIn tl_law_26 ti_Y_putA ts_Y_putA tn_Y tc_Y_putA) (by decide +kernel) ⟨Nat.le_of_ble_eq_true rfl, Nat.le_of_ble_eq_true rfl⟩ rfl hl rfl (Nat.le_of_ble_eq_true rfl) ⟨Nat.le_refl _, Nat.le_refl _⟩ d_law_191 (fun r2 u2 H locs hp2 hY hX hap => ?_)
  have e9 : (r, u.1) = (r2, u2) := hp.1.trans hp2.symm
  have e1 : r = r2 := congrArg Prod.fst e9
  have e2 : u2 = u.1 := (congrArg Prod.snd e9).symm
  subst e2
  have hlt2 : sw_letT u.1 := by rw [show u.1 = (se_putA (m, n, fa, fb) (xs (i + 1)) (xs (i + 2))).2 from congrArg Prod.snd hp.1]; exact sw_let_putA hlt
  refine lv_icmp_eq (tgt := 532) hx hb d_law_194 (by decide) (fun c1 => ?_) (fun c1 => ?_)
  · exact next u.1.1 u.1.2.1 u.1.2.2.1 u.1.2.2.2 u.2.1 u.2.2.1 u.2.2.2.1 u.2.2.2.2 ft fo _ _ ⟨hX, hY, hap.sy, hp.2, hlt2⟩
  · exact absurd e1 c1
set_option maxHeartbeats 4000000 in
set_option maxRecDepth 100000 in
theorem law_shiftB {p : Program} {l : Launch} {e : Env} {s : State} {mi : MethodId} {args : Array Value} {below : List Frame} {meth : Method} {c : Code} {H : Heap} {locs : List Loc} {Q : State → Prop} {ls : Array Slot} {dC : Nat → ClassId} {dI : Nat → Nat → Nat} {cA : ClassId} {A : Nat → Prop} {qx qy : Nat → Nat} {b L i : Nat} {xs : Nat → Int32} {m n : Nat} {fa fb fr fc fR fD ft fo : Nat → Int32} (C0 : LC p s mi args c b L xs dC dI cA A) (hI : LI s dC dI A qx qy cA m n fa fb fr fc fR fD ft fo H locs) (hi : i + 3 ≤ L) (hl : lv_has ls 4 [(0, .ref b), (1, .ref (qx 0)), (2, .ref (qy 0)), (3, .int (nI i))]) (next : ∀ (m n : Nat) (fa fb fr fc fR fD ft fo : Nat → Int32) (H : Heap) (locs : List Loc), LI s dC dI A qx qy cA m n fa fb fr fc fR fD ft fo H locs → W p l e room_1 s mi args below meth c H locs 12 602 Q (F0 mi 532 ls [])) : W p l e room_1 s mi args below meth c H locs 12 602 Q (F0 mi 199 ls []) := by
  obtain ⟨C, hX0, hbl, hbA, hL⟩ := C0
  obtain ⟨hX, hY, hap, hv, hlt⟩ := hI
  have hm : m ≤ 10 := hv.1
  have hn : n ≤ 14 := hv.2.1
  have hx := C.1
  have hb := C.2.1
  refine lv_aload_n hx hb d_law_199 rfl (lv_at hl 1 rfl) ?_
  refine cl_i (n := 0) (ci := 0) (rest := []) C hX hY hap (c_X_shiftB hv) rfl rfl (tb_goodIn tl_law_27 ti_X_shiftB ts_X_shiftB tn_X tc_X_shiftB) (by decide +kernel) ⟨Nat.le_of_ble_eq_true rfl, Nat.le_of_ble_eq_true rfl⟩ rfl hl rfl (Nat.le_of_ble_eq_true rfl) ⟨Nat.le_refl _, Nat.le_refl _⟩ d_law_200 (fun r u H locs hp hX hY hap => ?_)
  refine lv_aload_n hx hb d_law_203 rfl (lv_at hl 2 rfl) ?_
  refine cl_i (n := 0) (ci := 1) (rest := [.int r]) C hY hX hap.sy (c_Y_shiftB hm hn) rfl rfl (tb_goodIn tl_law_31 ti_Y_shiftB ts_Y_shiftB tn_Y tc_Y_shiftB) (by decide +kernel) ⟨Nat.le_of_ble_eq_true rfl, Nat.le_of_ble_eq_true rfl⟩ rfl hl rfl (Nat.le_of_ble_eq_true rfl) ⟨Nat.le_refl _, Nat.le_refl _⟩ d_law_204 (fun r2 u2 H locs hp2 hY hX hap => ?_)
  have e9 : (r, u.1) = (r2, u2) := hp.1.trans hp2.symm
  have e1 : r = r2 := congrArg Prod.fst e9
  have e2 : u2 = u.1 := (congrArg Prod.snd e9).symm
  subst e2
  have hlt2 : sw_letT u.1 := by rw [show u.1 = (se_shiftB (m, n, fa, fb)).2 from congrArg Prod.snd hp.1]; exact sw_let_shiftB hlt
  refine lv_icmp_eq (tgt := 532) hx hb d_law_207 (by decide) (fun c1 => ?_) (fun c1 => ?_)
  · exact next u.1.1 u.1.2.1 u.1.2.2.1 u.1.2.2.2 u.2.1 u.2.2.1 u.2.2.2.1 u.2.2.2.2 ft fo _ _ ⟨hX, hY, hap.sy, hp.2, hlt2⟩
  · exact absurd e1 c1
set_option maxHeartbeats 4000000 in
set_option maxRecDepth 100000 in
theorem law_clear {p : Program} {l : Launch} {e : Env} {s : State} {mi : MethodId} {args : Array Value} {below : List Frame} {meth : Method} {c : Code} {H : Heap} {locs : List Loc} {Q : State → Prop} {ls : Array Slot} {dC : Nat → ClassId} {dI : Nat → Nat → Nat} {cA : ClassId} {A : Nat → Prop} {qx qy : Nat → Nat} {b L i : Nat} {xs : Nat → Int32} {m n : Nat} {fa fb fr fc fR fD ft fo : Nat → Int32} (C0 : LC p s mi args c b L xs dC dI cA A) (hI : LI s dC dI A qx qy cA m n fa fb fr fc fR fD ft fo H locs) (hi : i + 3 ≤ L) (hl : lv_has ls 4 [(0, .ref b), (1, .ref (qx 0)), (2, .ref (qy 0)), (3, .int (nI i))]) (next : ∀ (m n : Nat) (fa fb fr fc fR fD ft fo : Nat → Int32) (H : Heap) (locs : List Loc), LI s dC dI A qx qy cA m n fa fb fr fc fR fD ft fo H locs → W p l e room_1 s mi args below meth c H locs 12 602 Q (F0 mi 532 ls [])) : W p l e room_1 s mi args below meth c H locs 12 602 Q (F0 mi 212 ls []) := by
  obtain ⟨C, hX0, hbl, hbA, hL⟩ := C0
  obtain ⟨hX, hY, hap, hv, hlt⟩ := hI
  have hm : m ≤ 10 := hv.1
  have hn : n ≤ 14 := hv.2.1
  have hx := C.1
  have hb := C.2.1
  refine lv_aload_n hx hb d_law_212 rfl (lv_at hl 1 rfl) ?_
  refine cl_v (n := 0) (ci := 0) (rest := []) C hX hY hap (c_X_clear (m := m) (n := n)) rfl rfl (tb_goodIn tl_law_32 ti_X_clear ts_X_clear tn_X tc_X_clear) (by decide +kernel) ⟨Nat.le_of_ble_eq_true rfl, Nat.le_of_ble_eq_true rfl⟩ rfl hl rfl (Nat.le_of_ble_eq_true rfl) ⟨Nat.le_refl _, Nat.le_refl _⟩ d_law_213 (fun u H locs hp hX hY hap => ?_)
  refine lv_aload_n hx hb d_law_216 rfl (lv_at hl 2 rfl) ?_
  refine cl_v (n := 0) (ci := 1) (rest := []) C hY hX hap.sy (c_Y_clear (m := m) (n := n)) rfl rfl (tb_goodIn tl_law_35 ti_Y_clear ts_Y_clear tn_Y tc_Y_clear) (by decide +kernel) ⟨Nat.le_of_ble_eq_true rfl, Nat.le_of_ble_eq_true rfl⟩ rfl hl rfl (Nat.le_of_ble_eq_true rfl) ⟨Nat.le_refl _, Nat.le_refl _⟩ d_law_217 (fun u2 H locs hp2 hY hX hap => ?_)
  have e2 : u2 = u.1 := hp2.trans hp.1.symm
  subst e2
  have hlt2 : sw_letT u.1 := by rw [hp.1]; exact sw_let_clear
  refine lv_goto (tgt := 532) hx hb d_law_220 (by decide) ?_
  exact next u.1.1 u.1.2.1 u.1.2.2.1 u.1.2.2.2 u.2.1 u.2.2.1 u.2.2.2.1 u.2.2.2.2 ft fo _ _ ⟨hX, hY, hap.sy, hp.2, hlt2⟩
set_option maxHeartbeats 4000000 in
set_option maxRecDepth 100000 in
theorem law_lengths {p : Program} {l : Launch} {e : Env} {s : State} {mi : MethodId} {args : Array Value} {below : List Frame} {meth : Method} {c : Code} {H : Heap} {locs : List Loc} {Q : State → Prop} {ls : Array Slot} {dC : Nat → ClassId} {dI : Nat → Nat → Nat} {cA : ClassId} {A : Nat → Prop} {qx qy : Nat → Nat} {b L i : Nat} {xs : Nat → Int32} {m n : Nat} {fa fb fr fc fR fD ft fo : Nat → Int32} (C0 : LC p s mi args c b L xs dC dI cA A) (hI : LI s dC dI A qx qy cA m n fa fb fr fc fR fD ft fo H locs) (hi : i + 3 ≤ L) (hl : lv_has ls 4 [(0, .ref b), (1, .ref (qx 0)), (2, .ref (qy 0)), (3, .int (nI i))]) (next : ∀ (m n : Nat) (fa fb fr fc fR fD ft fo : Nat → Int32) (H : Heap) (locs : List Loc), LI s dC dI A qx qy cA m n fa fb fr fc fR fD ft fo H locs → W p l e room_1 s mi args below meth c H locs 12 602 Q (F0 mi 532 ls [])) : W p l e room_1 s mi args below meth c H locs 12 602 Q (F0 mi 223 ls []) := by
  obtain ⟨C, hX0, hbl, hbA, hL⟩ := C0
  obtain ⟨hX, hY, hap, hv, hlt⟩ := hI
  have hm : m ≤ 10 := hv.1
  have hn : n ≤ 14 := hv.2.1
  have hx := C.1
  have hb := C.2.1
  refine lv_aload_n hx hb d_law_223 rfl (lv_at hl 1 rfl) ?_
  refine cl_i (n := 0) (ci := 0) (rest := []) C hX hY hap (c_X_lengths (m := m) (n := n)) rfl rfl (tb_goodIn tl_law_36 ti_X_lengths ts_X_lengths tn_X tc_X_lengths) (by decide +kernel) ⟨Nat.le_of_ble_eq_true rfl, Nat.le_of_ble_eq_true rfl⟩ rfl hl rfl (Nat.le_of_ble_eq_true rfl) ⟨Nat.le_refl _, Nat.le_refl _⟩ d_law_224 (fun r u H locs hp hX hY hap => ?_)
  refine lv_aload_n hx hb d_law_227 rfl (lv_at hl 2 rfl) ?_
  refine cl_i (n := 0) (ci := 1) (rest := [.int r]) C hY hX hap.sy (c_Y_lengths (m := m) (n := n)) rfl rfl (tb_goodIn tl_law_39 ti_Y_lengths ts_Y_lengths tn_Y tc_Y_lengths) (by decide +kernel) ⟨Nat.le_of_ble_eq_true rfl, Nat.le_of_ble_eq_true rfl⟩ rfl hl rfl (Nat.le_of_ble_eq_true rfl) ⟨Nat.le_refl _, Nat.le_refl _⟩ d_law_228 (fun r2 u2 H locs hp2 hY hX hap => ?_)
  have e1 : r = r2 := hp.trans hp2.symm
  refine lv_icmp_eq (tgt := 532) hx hb d_law_231 (by decide) (fun c1 => ?_) (fun c1 => ?_)
  · exact next m n fa fb fr fc fR fD ft fo _ _ ⟨hX, hY, hap.sy, hv, hlt⟩
  · exact absurd e1 c1
set_option maxHeartbeats 4000000 in
set_option maxRecDepth 100000 in
theorem law_commonB {p : Program} {l : Launch} {e : Env} {s : State} {mi : MethodId} {args : Array Value} {below : List Frame} {meth : Method} {c : Code} {H : Heap} {locs : List Loc} {Q : State → Prop} {ls : Array Slot} {dC : Nat → ClassId} {dI : Nat → Nat → Nat} {cA : ClassId} {A : Nat → Prop} {qx qy : Nat → Nat} {b L i : Nat} {xs : Nat → Int32} {m n : Nat} {fa fb fr fc fR fD ft fo : Nat → Int32} (C0 : LC p s mi args c b L xs dC dI cA A) (hI : LI s dC dI A qx qy cA m n fa fb fr fc fR fD ft fo H locs) (hi : i + 3 ≤ L) (hl : lv_has ls 4 [(0, .ref b), (1, .ref (qx 0)), (2, .ref (qy 0)), (3, .int (nI i))]) (next : ∀ (m n : Nat) (fa fb fr fc fR fD ft fo : Nat → Int32) (H : Heap) (locs : List Loc), LI s dC dI A qx qy cA m n fa fb fr fc fR fD ft fo H locs → W p l e room_1 s mi args below meth c H locs 12 602 Q (F0 mi 532 ls [])) : W p l e room_1 s mi args below meth c H locs 12 602 Q (F0 mi 236 ls []) := by
  obtain ⟨C, hX0, hbl, hbA, hL⟩ := C0
  obtain ⟨hX, hY, hap, hv, hlt⟩ := hI
  have hm : m ≤ 10 := hv.1
  have hn : n ≤ 14 := hv.2.1
  have hx := C.1
  have hb := C.2.1
  refine lv_aload_n hx hb d_law_236 rfl (lv_at hl 1 rfl) ?_
  refine lv_aload_n hx hb d_law_237 rfl (lv_at hl 0 rfl) ?_
  refine lv_iload_n hx hb d_law_238 rfl (lv_at hl 3 rfl) ?_
  refine lv_iconst (v := nI 1) hx hb d_law_239 (by decide) ?_
  refine ni_add hx hb d_law_240 ?_
  refine sl_ld hx hb hX0 hbl hbA hX (i + 1) (by omega) hL d_law_241 ?_
  refine lv_aload_n hx hb d_law_242 rfl (lv_at hl 0 rfl) ?_
  refine lv_iload_n hx hb d_law_243 rfl (lv_at hl 3 rfl) ?_
  refine lv_iconst (v := nI 2) hx hb d_law_244 (by decide) ?_
  refine ni_add hx hb d_law_245 ?_
  refine sl_ld hx hb hX0 hbl hbA hX (i + 2) (by omega) hL d_law_246 ?_
  refine cl_i (n := 2) (ci := 0) (rest := []) C hX hY hap (c_X_commonB (i := xs (i + 1)) (j := xs (i + 2)) hv) rfl rfl (tb_goodIn tl_law_40 ti_X_commonB ts_X_commonB tn_X tc_X_commonB) (by decide +kernel) ⟨Nat.le_of_ble_eq_true rfl, Nat.le_of_ble_eq_true rfl⟩ rfl hl rfl (Nat.le_of_ble_eq_true rfl) ⟨Nat.le_refl _, Nat.le_refl _⟩ d_law_247 (fun r u H locs hp hX hY hap => ?_)
  refine lv_aload_n hx hb d_law_250 rfl (lv_at hl 2 rfl) ?_
  refine lv_aload_n hx hb d_law_251 rfl (lv_at hl 0 rfl) ?_
  refine lv_iload_n hx hb d_law_252 rfl (lv_at hl 3 rfl) ?_
  refine lv_iconst (v := nI 1) hx hb d_law_253 (by decide) ?_
  refine ni_add hx hb d_law_254 ?_
  refine sl_ld hx hb hX0 hbl hbA hX (i + 1) (by omega) hL d_law_255 ?_
  refine lv_aload_n hx hb d_law_256 rfl (lv_at hl 0 rfl) ?_
  refine lv_iload_n hx hb d_law_257 rfl (lv_at hl 3 rfl) ?_
  refine lv_iconst (v := nI 2) hx hb d_law_258 (by decide) ?_
  refine ni_add hx hb d_law_259 ?_
  refine sl_ld hx hb hX0 hbl hbA hX (i + 2) (by omega) hL d_law_260 ?_
  refine cl_i (n := 2) (ci := 1) (rest := [.int r]) C hY hX hap.sy (c_Y_commonB (i := xs (i + 1)) (j := xs (i + 2)) hm hn) rfl rfl (tb_goodIn tl_law_43 ti_Y_commonB ts_Y_commonB tn_Y tc_Y_commonB) (by decide +kernel) ⟨Nat.le_of_ble_eq_true rfl, Nat.le_of_ble_eq_true rfl⟩ rfl hl rfl (Nat.le_of_ble_eq_true rfl) ⟨Nat.le_refl _, Nat.le_refl _⟩ d_law_261 (fun r2 u2 H locs hp2 hY hX hap => ?_)
  have e1 : r = r2 := hp.trans hp2.symm
  refine lv_icmp_eq (tgt := 532) hx hb d_law_264 (by decide) (fun c1 => ?_) (fun c1 => ?_)
  · exact next m n fa fb fr fc fR fD u2.1 u2.2 _ _ ⟨hX, hY, hap.sy, hv, hlt⟩
  · exact absurd e1 c1
set_option maxHeartbeats 4000000 in
set_option maxRecDepth 100000 in
theorem law_commonA {p : Program} {l : Launch} {e : Env} {s : State} {mi : MethodId} {args : Array Value} {below : List Frame} {meth : Method} {c : Code} {H : Heap} {locs : List Loc} {Q : State → Prop} {ls : Array Slot} {dC : Nat → ClassId} {dI : Nat → Nat → Nat} {cA : ClassId} {A : Nat → Prop} {qx qy : Nat → Nat} {b L i : Nat} {xs : Nat → Int32} {m n : Nat} {fa fb fr fc fR fD ft fo : Nat → Int32} (C0 : LC p s mi args c b L xs dC dI cA A) (hI : LI s dC dI A qx qy cA m n fa fb fr fc fR fD ft fo H locs) (hi : i + 3 ≤ L) (hl : lv_has ls 4 [(0, .ref b), (1, .ref (qx 0)), (2, .ref (qy 0)), (3, .int (nI i))]) (next : ∀ (m n : Nat) (fa fb fr fc fR fD ft fo : Nat → Int32) (H : Heap) (locs : List Loc), LI s dC dI A qx qy cA m n fa fb fr fc fR fD ft fo H locs → W p l e room_1 s mi args below meth c H locs 12 602 Q (F0 mi 532 ls [])) : W p l e room_1 s mi args below meth c H locs 12 602 Q (F0 mi 269 ls []) := by
  obtain ⟨C, hX0, hbl, hbA, hL⟩ := C0
  obtain ⟨hX, hY, hap, hv, hlt⟩ := hI
  have hm : m ≤ 10 := hv.1
  have hn : n ≤ 14 := hv.2.1
  have hx := C.1
  have hb := C.2.1
  refine lv_aload_n hx hb d_law_269 rfl (lv_at hl 1 rfl) ?_
  refine lv_aload_n hx hb d_law_270 rfl (lv_at hl 0 rfl) ?_
  refine lv_iload_n hx hb d_law_271 rfl (lv_at hl 3 rfl) ?_
  refine lv_iconst (v := nI 1) hx hb d_law_272 (by decide) ?_
  refine ni_add hx hb d_law_273 ?_
  refine sl_ld hx hb hX0 hbl hbA hX (i + 1) (by omega) hL d_law_274 ?_
  refine lv_aload_n hx hb d_law_275 rfl (lv_at hl 0 rfl) ?_
  refine lv_iload_n hx hb d_law_276 rfl (lv_at hl 3 rfl) ?_
  refine lv_iconst (v := nI 2) hx hb d_law_277 (by decide) ?_
  refine ni_add hx hb d_law_278 ?_
  refine sl_ld hx hb hX0 hbl hbA hX (i + 2) (by omega) hL d_law_279 ?_
  refine cl_i (n := 2) (ci := 0) (rest := []) C hX hY hap (c_X_commonA (i := xs (i + 1)) (j := xs (i + 2)) hv) rfl rfl (tb_goodIn tl_law_44 ti_X_commonA ts_X_commonA tn_X tc_X_commonA) (by decide +kernel) ⟨Nat.le_of_ble_eq_true rfl, Nat.le_of_ble_eq_true rfl⟩ rfl hl rfl (Nat.le_of_ble_eq_true rfl) ⟨Nat.le_refl _, Nat.le_refl _⟩ d_law_280 (fun r u H locs hp hX hY hap => ?_)
  refine lv_aload_n hx hb d_law_283 rfl (lv_at hl 2 rfl) ?_
  refine lv_aload_n hx hb d_law_284 rfl (lv_at hl 0 rfl) ?_
  refine lv_iload_n hx hb d_law_285 rfl (lv_at hl 3 rfl) ?_
  refine lv_iconst (v := nI 1) hx hb d_law_286 (by decide) ?_
  refine ni_add hx hb d_law_287 ?_
  refine sl_ld hx hb hX0 hbl hbA hX (i + 1) (by omega) hL d_law_288 ?_
  refine lv_aload_n hx hb d_law_289 rfl (lv_at hl 0 rfl) ?_
  refine lv_iload_n hx hb d_law_290 rfl (lv_at hl 3 rfl) ?_
  refine lv_iconst (v := nI 2) hx hb d_law_291 (by decide) ?_
  refine ni_add hx hb d_law_292 ?_
  refine sl_ld hx hb hX0 hbl hbA hX (i + 2) (by omega) hL d_law_293 ?_
  refine cl_i (n := 2) (ci := 1) (rest := [.int r]) C hY hX hap.sy (c_Y_commonA (i := xs (i + 1)) (j := xs (i + 2)) hm hn) rfl rfl (tb_goodIn tl_law_47 ti_Y_commonA ts_Y_commonA tn_Y tc_Y_commonA) (by decide +kernel) ⟨Nat.le_of_ble_eq_true rfl, Nat.le_of_ble_eq_true rfl⟩ rfl hl rfl (Nat.le_of_ble_eq_true rfl) ⟨Nat.le_refl _, Nat.le_refl _⟩ d_law_294 (fun r2 u2 H locs hp2 hY hX hap => ?_)
  have e1 : r = r2 := hp.trans hp2.symm
  refine lv_icmp_eq (tgt := 532) hx hb d_law_297 (by decide) (fun c1 => ?_) (fun c1 => ?_)
  · exact next m n fa fb fr fc fR fD u2.1 u2.2 _ _ ⟨hX, hY, hap.sy, hv, hlt⟩
  · exact absurd e1 c1
set_option maxHeartbeats 4000000 in
set_option maxRecDepth 100000 in
theorem law_commonEnd {p : Program} {l : Launch} {e : Env} {s : State} {mi : MethodId} {args : Array Value} {below : List Frame} {meth : Method} {c : Code} {H : Heap} {locs : List Loc} {Q : State → Prop} {ls : Array Slot} {dC : Nat → ClassId} {dI : Nat → Nat → Nat} {cA : ClassId} {A : Nat → Prop} {qx qy : Nat → Nat} {b L i : Nat} {xs : Nat → Int32} {m n : Nat} {fa fb fr fc fR fD ft fo : Nat → Int32} (C0 : LC p s mi args c b L xs dC dI cA A) (hI : LI s dC dI A qx qy cA m n fa fb fr fc fR fD ft fo H locs) (hi : i + 3 ≤ L) (hl : lv_has ls 4 [(0, .ref b), (1, .ref (qx 0)), (2, .ref (qy 0)), (3, .int (nI i))]) (next : ∀ (m n : Nat) (fa fb fr fc fR fD ft fo : Nat → Int32) (H : Heap) (locs : List Loc), LI s dC dI A qx qy cA m n fa fb fr fc fR fD ft fo H locs → W p l e room_1 s mi args below meth c H locs 12 602 Q (F0 mi 532 ls [])) : W p l e room_1 s mi args below meth c H locs 12 602 Q (F0 mi 302 ls []) := by
  obtain ⟨C, hX0, hbl, hbA, hL⟩ := C0
  obtain ⟨hX, hY, hap, hv, hlt⟩ := hI
  have hm : m ≤ 10 := hv.1
  have hn : n ≤ 14 := hv.2.1
  have hx := C.1
  have hb := C.2.1
  refine lv_aload_n hx hb d_law_302 rfl (lv_at hl 1 rfl) ?_
  refine lv_aload_n hx hb d_law_303 rfl (lv_at hl 0 rfl) ?_
  refine lv_iload_n hx hb d_law_304 rfl (lv_at hl 3 rfl) ?_
  refine lv_iconst (v := nI 1) hx hb d_law_305 (by decide) ?_
  refine ni_add hx hb d_law_306 ?_
  refine sl_ld hx hb hX0 hbl hbA hX (i + 1) (by omega) hL d_law_307 ?_
  refine lv_aload_n hx hb d_law_308 rfl (lv_at hl 0 rfl) ?_
  refine lv_iload_n hx hb d_law_309 rfl (lv_at hl 3 rfl) ?_
  refine lv_iconst (v := nI 2) hx hb d_law_310 (by decide) ?_
  refine ni_add hx hb d_law_311 ?_
  refine sl_ld hx hb hX0 hbl hbA hX (i + 2) (by omega) hL d_law_312 ?_
  refine cl_i (n := 2) (ci := 0) (rest := []) C hX hY hap (c_X_commonEnd (k := xs (i + 1)) (j := xs (i + 2)) hv) rfl rfl (tb_goodIn tl_law_48 ti_X_commonEnd ts_X_commonEnd tn_X tc_X_commonEnd) (by decide +kernel) ⟨Nat.le_of_ble_eq_true rfl, Nat.le_of_ble_eq_true rfl⟩ rfl hl rfl (Nat.le_of_ble_eq_true rfl) ⟨Nat.le_refl _, Nat.le_refl _⟩ d_law_313 (fun r u H locs hp hX hY hap => ?_)
  refine lv_aload_n hx hb d_law_316 rfl (lv_at hl 2 rfl) ?_
  refine lv_aload_n hx hb d_law_317 rfl (lv_at hl 0 rfl) ?_
  refine lv_iload_n hx hb d_law_318 rfl (lv_at hl 3 rfl) ?_
  refine lv_iconst (v := nI 1) hx hb d_law_319 (by decide) ?_
  refine ni_add hx hb d_law_320 ?_
  refine sl_ld hx hb hX0 hbl hbA hX (i + 1) (by omega) hL d_law_321 ?_
  refine lv_aload_n hx hb d_law_322 rfl (lv_at hl 0 rfl) ?_
  refine lv_iload_n hx hb d_law_323 rfl (lv_at hl 3 rfl) ?_
  refine lv_iconst (v := nI 2) hx hb d_law_324 (by decide) ?_
  refine ni_add hx hb d_law_325 ?_
  refine sl_ld hx hb hX0 hbl hbA hX (i + 2) (by omega) hL d_law_326 ?_
  refine cl_i (n := 2) (ci := 1) (rest := [.int r]) C hY hX hap.sy (c_Y_commonEnd (k := xs (i + 1)) (j := xs (i + 2)) hm hn) rfl rfl (tb_goodIn tl_law_51 ti_Y_commonEnd ts_Y_commonEnd tn_Y tc_Y_commonEnd) (by decide +kernel) ⟨Nat.le_of_ble_eq_true rfl, Nat.le_of_ble_eq_true rfl⟩ rfl hl rfl (Nat.le_of_ble_eq_true rfl) ⟨Nat.le_refl _, Nat.le_refl _⟩ d_law_327 (fun r2 u2 H locs hp2 hY hX hap => ?_)
  have e1 : r = r2 := hp.trans hp2.symm
  refine lv_icmp_eq (tgt := 532) hx hb d_law_330 (by decide) (fun c1 => ?_) (fun c1 => ?_)
  · exact next m n fa fb fr fc fR fD u2.1 u2.2 _ _ ⟨hX, hY, hap.sy, hv, hlt⟩
  · exact absurd e1 c1
set_option maxHeartbeats 4000000 in
set_option maxRecDepth 100000 in
theorem law_commonBegin {p : Program} {l : Launch} {e : Env} {s : State} {mi : MethodId} {args : Array Value} {below : List Frame} {meth : Method} {c : Code} {H : Heap} {locs : List Loc} {Q : State → Prop} {ls : Array Slot} {dC : Nat → ClassId} {dI : Nat → Nat → Nat} {cA : ClassId} {A : Nat → Prop} {qx qy : Nat → Nat} {b L i : Nat} {xs : Nat → Int32} {m n : Nat} {fa fb fr fc fR fD ft fo : Nat → Int32} (C0 : LC p s mi args c b L xs dC dI cA A) (hI : LI s dC dI A qx qy cA m n fa fb fr fc fR fD ft fo H locs) (hi : i + 3 ≤ L) (hl : lv_has ls 4 [(0, .ref b), (1, .ref (qx 0)), (2, .ref (qy 0)), (3, .int (nI i))]) (next : ∀ (m n : Nat) (fa fb fr fc fR fD ft fo : Nat → Int32) (H : Heap) (locs : List Loc), LI s dC dI A qx qy cA m n fa fb fr fc fR fD ft fo H locs → W p l e room_1 s mi args below meth c H locs 12 602 Q (F0 mi 532 ls [])) : W p l e room_1 s mi args below meth c H locs 12 602 Q (F0 mi 335 ls []) := by
  obtain ⟨C, hX0, hbl, hbA, hL⟩ := C0
  obtain ⟨hX, hY, hap, hv, hlt⟩ := hI
  have hm : m ≤ 10 := hv.1
  have hn : n ≤ 14 := hv.2.1
  have hx := C.1
  have hb := C.2.1
  refine lv_aload_n hx hb d_law_335 rfl (lv_at hl 1 rfl) ?_
  refine lv_aload_n hx hb d_law_336 rfl (lv_at hl 0 rfl) ?_
  refine lv_iload_n hx hb d_law_337 rfl (lv_at hl 3 rfl) ?_
  refine lv_iconst (v := nI 1) hx hb d_law_338 (by decide) ?_
  refine ni_add hx hb d_law_339 ?_
  refine sl_ld hx hb hX0 hbl hbA hX (i + 1) (by omega) hL d_law_340 ?_
  refine lv_aload_n hx hb d_law_341 rfl (lv_at hl 0 rfl) ?_
  refine lv_iload_n hx hb d_law_342 rfl (lv_at hl 3 rfl) ?_
  refine lv_iconst (v := nI 2) hx hb d_law_343 (by decide) ?_
  refine ni_add hx hb d_law_344 ?_
  refine sl_ld hx hb hX0 hbl hbA hX (i + 2) (by omega) hL d_law_345 ?_
  refine cl_i (n := 2) (ci := 0) (rest := []) C hX hY hap (c_X_commonBegin (k := xs (i + 1)) (j := xs (i + 2)) hv) rfl rfl (tb_goodIn tl_law_52 ti_X_commonBegin ts_X_commonBegin tn_X tc_X_commonBegin) (by decide +kernel) ⟨Nat.le_of_ble_eq_true rfl, Nat.le_of_ble_eq_true rfl⟩ rfl hl rfl (Nat.le_of_ble_eq_true rfl) ⟨Nat.le_refl _, Nat.le_refl _⟩ d_law_346 (fun r u H locs hp hX hY hap => ?_)
  refine lv_aload_n hx hb d_law_349 rfl (lv_at hl 2 rfl) ?_
  refine lv_aload_n hx hb d_law_350 rfl (lv_at hl 0 rfl) ?_
  refine lv_iload_n hx hb d_law_351 rfl (lv_at hl 3 rfl) ?_
  refine lv_iconst (v := nI 1) hx hb d_law_352 (by decide) ?_
  refine ni_add hx hb d_law_353 ?_
  refine sl_ld hx hb hX0 hbl hbA hX (i + 1) (by omega) hL d_law_354 ?_
  refine lv_aload_n hx hb d_law_355 rfl (lv_at hl 0 rfl) ?_
  refine lv_iload_n hx hb d_law_356 rfl (lv_at hl 3 rfl) ?_
  refine lv_iconst (v := nI 2) hx hb d_law_357 (by decide) ?_
  refine ni_add hx hb d_law_358 ?_
  refine sl_ld hx hb hX0 hbl hbA hX (i + 2) (by omega) hL d_law_359 ?_
  refine cl_i (n := 2) (ci := 1) (rest := [.int r]) C hY hX hap.sy (c_Y_commonBegin (k := xs (i + 1)) (j := xs (i + 2)) hm hn) rfl rfl (tb_goodIn tl_law_55 ti_Y_commonBegin ts_Y_commonBegin tn_Y tc_Y_commonBegin) (by decide +kernel) ⟨Nat.le_of_ble_eq_true rfl, Nat.le_of_ble_eq_true rfl⟩ rfl hl rfl (Nat.le_of_ble_eq_true rfl) ⟨Nat.le_refl _, Nat.le_refl _⟩ d_law_360 (fun r2 u2 H locs hp2 hY hX hap => ?_)
  have e1 : r = r2 := hp.trans hp2.symm
  refine lv_icmp_eq (tgt := 532) hx hb d_law_363 (by decide) (fun c1 => ?_) (fun c1 => ?_)
  · exact next m n fa fb fr fc fR fD u2.1 u2.2 _ _ ⟨hX, hY, hap.sy, hv, hlt⟩
  · exact absurd e1 c1
set_option maxHeartbeats 4000000 in
set_option maxRecDepth 100000 in
theorem law_changesB {p : Program} {l : Launch} {e : Env} {s : State} {mi : MethodId} {args : Array Value} {below : List Frame} {meth : Method} {c : Code} {H : Heap} {locs : List Loc} {Q : State → Prop} {ls : Array Slot} {dC : Nat → ClassId} {dI : Nat → Nat → Nat} {cA : ClassId} {A : Nat → Prop} {qx qy : Nat → Nat} {b L i : Nat} {xs : Nat → Int32} {m n : Nat} {fa fb fr fc fR fD ft fo : Nat → Int32} (C0 : LC p s mi args c b L xs dC dI cA A) (hI : LI s dC dI A qx qy cA m n fa fb fr fc fR fD ft fo H locs) (hi : i + 3 ≤ L) (hl : lv_has ls 4 [(0, .ref b), (1, .ref (qx 0)), (2, .ref (qy 0)), (3, .int (nI i))]) (next : ∀ (m n : Nat) (fa fb fr fc fR fD ft fo : Nat → Int32) (H : Heap) (locs : List Loc), LI s dC dI A qx qy cA m n fa fb fr fc fR fD ft fo H locs → W p l e room_1 s mi args below meth c H locs 12 602 Q (F0 mi 532 ls [])) : W p l e room_1 s mi args below meth c H locs 12 602 Q (F0 mi 368 ls []) := by
  obtain ⟨C, hX0, hbl, hbA, hL⟩ := C0
  obtain ⟨hX, hY, hap, hv, hlt⟩ := hI
  have hm : m ≤ 10 := hv.1
  have hn : n ≤ 14 := hv.2.1
  have hx := C.1
  have hb := C.2.1
  refine lv_aload_n hx hb d_law_368 rfl (lv_at hl 1 rfl) ?_
  refine lv_aload_n hx hb d_law_369 rfl (lv_at hl 0 rfl) ?_
  refine lv_iload_n hx hb d_law_370 rfl (lv_at hl 3 rfl) ?_
  refine lv_iconst (v := nI 1) hx hb d_law_371 (by decide) ?_
  refine ni_add hx hb d_law_372 ?_
  refine sl_ld hx hb hX0 hbl hbA hX (i + 1) (by omega) hL d_law_373 ?_
  refine lv_aload_n hx hb d_law_374 rfl (lv_at hl 0 rfl) ?_
  refine lv_iload_n hx hb d_law_375 rfl (lv_at hl 3 rfl) ?_
  refine lv_iconst (v := nI 2) hx hb d_law_376 (by decide) ?_
  refine ni_add hx hb d_law_377 ?_
  refine sl_ld hx hb hX0 hbl hbA hX (i + 2) (by omega) hL d_law_378 ?_
  refine cl_i (n := 2) (ci := 0) (rest := []) C hX hY hap (c_X_changesB (i := xs (i + 1)) (j := xs (i + 2)) hv hlt) rfl rfl (tb_goodIn tl_law_56 ti_X_changesB ts_X_changesB tn_X tc_X_changesB) (by decide +kernel) ⟨Nat.le_of_ble_eq_true rfl, Nat.le_of_ble_eq_true rfl⟩ rfl hl rfl (Nat.le_of_ble_eq_true rfl) ⟨Nat.le_refl _, Nat.le_refl _⟩ d_law_379 (fun r u H locs hp hX hY hap => ?_)
  refine lv_aload_n hx hb d_law_382 rfl (lv_at hl 2 rfl) ?_
  refine lv_aload_n hx hb d_law_383 rfl (lv_at hl 0 rfl) ?_
  refine lv_iload_n hx hb d_law_384 rfl (lv_at hl 3 rfl) ?_
  refine lv_iconst (v := nI 1) hx hb d_law_385 (by decide) ?_
  refine ni_add hx hb d_law_386 ?_
  refine sl_ld hx hb hX0 hbl hbA hX (i + 1) (by omega) hL d_law_387 ?_
  refine lv_aload_n hx hb d_law_388 rfl (lv_at hl 0 rfl) ?_
  refine lv_iload_n hx hb d_law_389 rfl (lv_at hl 3 rfl) ?_
  refine lv_iconst (v := nI 2) hx hb d_law_390 (by decide) ?_
  refine ni_add hx hb d_law_391 ?_
  refine sl_ld hx hb hX0 hbl hbA hX (i + 2) (by omega) hL d_law_392 ?_
  refine cl_i (n := 2) (ci := 1) (rest := [.int r]) C hY hX hap.sy (c_Y_changesB (i := xs (i + 1)) (j := xs (i + 2)) hm hn) rfl rfl (tb_goodIn tl_law_59 ti_Y_changesB ts_Y_changesB tn_Y tc_Y_changesB) (by decide +kernel) ⟨Nat.le_of_ble_eq_true rfl, Nat.le_of_ble_eq_true rfl⟩ rfl hl rfl (Nat.le_of_ble_eq_true rfl) ⟨Nat.le_refl _, Nat.le_refl _⟩ d_law_393 (fun r2 u2 H locs hp2 hY hX hap => ?_)
  have e1 : r = r2 := hp.trans hp2.symm
  refine lv_icmp_eq (tgt := 532) hx hb d_law_396 (by decide) (fun c1 => ?_) (fun c1 => ?_)
  · exact next m n fa fb fr fc fR fD u2.1 u2.2 _ _ ⟨hX, hY, hap.sy, hv, hlt⟩
  · exact absurd e1 c1
set_option maxHeartbeats 4000000 in
set_option maxRecDepth 100000 in
theorem law_changesA {p : Program} {l : Launch} {e : Env} {s : State} {mi : MethodId} {args : Array Value} {below : List Frame} {meth : Method} {c : Code} {H : Heap} {locs : List Loc} {Q : State → Prop} {ls : Array Slot} {dC : Nat → ClassId} {dI : Nat → Nat → Nat} {cA : ClassId} {A : Nat → Prop} {qx qy : Nat → Nat} {b L i : Nat} {xs : Nat → Int32} {m n : Nat} {fa fb fr fc fR fD ft fo : Nat → Int32} (C0 : LC p s mi args c b L xs dC dI cA A) (hI : LI s dC dI A qx qy cA m n fa fb fr fc fR fD ft fo H locs) (hi : i + 3 ≤ L) (hl : lv_has ls 4 [(0, .ref b), (1, .ref (qx 0)), (2, .ref (qy 0)), (3, .int (nI i))]) (next : ∀ (m n : Nat) (fa fb fr fc fR fD ft fo : Nat → Int32) (H : Heap) (locs : List Loc), LI s dC dI A qx qy cA m n fa fb fr fc fR fD ft fo H locs → W p l e room_1 s mi args below meth c H locs 12 602 Q (F0 mi 532 ls [])) : W p l e room_1 s mi args below meth c H locs 12 602 Q (F0 mi 401 ls []) := by
  obtain ⟨C, hX0, hbl, hbA, hL⟩ := C0
  obtain ⟨hX, hY, hap, hv, hlt⟩ := hI
  have hm : m ≤ 10 := hv.1
  have hn : n ≤ 14 := hv.2.1
  have hx := C.1
  have hb := C.2.1
  refine lv_aload_n hx hb d_law_401 rfl (lv_at hl 1 rfl) ?_
  refine lv_aload_n hx hb d_law_402 rfl (lv_at hl 0 rfl) ?_
  refine lv_iload_n hx hb d_law_403 rfl (lv_at hl 3 rfl) ?_
  refine lv_iconst (v := nI 1) hx hb d_law_404 (by decide) ?_
  refine ni_add hx hb d_law_405 ?_
  refine sl_ld hx hb hX0 hbl hbA hX (i + 1) (by omega) hL d_law_406 ?_
  refine lv_aload_n hx hb d_law_407 rfl (lv_at hl 0 rfl) ?_
  refine lv_iload_n hx hb d_law_408 rfl (lv_at hl 3 rfl) ?_
  refine lv_iconst (v := nI 2) hx hb d_law_409 (by decide) ?_
  refine ni_add hx hb d_law_410 ?_
  refine sl_ld hx hb hX0 hbl hbA hX (i + 2) (by omega) hL d_law_411 ?_
  refine cl_i (n := 2) (ci := 0) (rest := []) C hX hY hap (c_X_changesA (i := xs (i + 1)) (j := xs (i + 2)) hv hlt) rfl rfl (tb_goodIn tl_law_60 ti_X_changesA ts_X_changesA tn_X tc_X_changesA) (by decide +kernel) ⟨Nat.le_of_ble_eq_true rfl, Nat.le_of_ble_eq_true rfl⟩ rfl hl rfl (Nat.le_of_ble_eq_true rfl) ⟨Nat.le_refl _, Nat.le_refl _⟩ d_law_412 (fun r u H locs hp hX hY hap => ?_)
  refine lv_aload_n hx hb d_law_415 rfl (lv_at hl 2 rfl) ?_
  refine lv_aload_n hx hb d_law_416 rfl (lv_at hl 0 rfl) ?_
  refine lv_iload_n hx hb d_law_417 rfl (lv_at hl 3 rfl) ?_
  refine lv_iconst (v := nI 1) hx hb d_law_418 (by decide) ?_
  refine ni_add hx hb d_law_419 ?_
  refine sl_ld hx hb hX0 hbl hbA hX (i + 1) (by omega) hL d_law_420 ?_
  refine lv_aload_n hx hb d_law_421 rfl (lv_at hl 0 rfl) ?_
  refine lv_iload_n hx hb d_law_422 rfl (lv_at hl 3 rfl) ?_
  refine lv_iconst (v := nI 2) hx hb d_law_423 (by decide) ?_
  refine ni_add hx hb d_law_424 ?_
  refine sl_ld hx hb hX0 hbl hbA hX (i + 2) (by omega) hL d_law_425 ?_
  refine cl_i (n := 2) (ci := 1) (rest := [.int r]) C hY hX hap.sy (c_Y_changesA (i := xs (i + 1)) (j := xs (i + 2)) hm hn) rfl rfl (tb_goodIn tl_law_63 ti_Y_changesA ts_Y_changesA tn_Y tc_Y_changesA) (by decide +kernel) ⟨Nat.le_of_ble_eq_true rfl, Nat.le_of_ble_eq_true rfl⟩ rfl hl rfl (Nat.le_of_ble_eq_true rfl) ⟨Nat.le_refl _, Nat.le_refl _⟩ d_law_426 (fun r2 u2 H locs hp2 hY hX hap => ?_)
  have e1 : r = r2 := hp.trans hp2.symm
  refine lv_icmp_eq (tgt := 532) hx hb d_law_429 (by decide) (fun c1 => ?_) (fun c1 => ?_)
  · exact next m n fa fb fr fc fR fD u2.1 u2.2 _ _ ⟨hX, hY, hap.sy, hv, hlt⟩
  · exact absurd e1 c1
set_option maxHeartbeats 4000000 in
set_option maxRecDepth 100000 in
theorem law_nearest {p : Program} {l : Launch} {e : Env} {s : State} {mi : MethodId} {args : Array Value} {below : List Frame} {meth : Method} {c : Code} {H : Heap} {locs : List Loc} {Q : State → Prop} {ls : Array Slot} {dC : Nat → ClassId} {dI : Nat → Nat → Nat} {cA : ClassId} {A : Nat → Prop} {qx qy : Nat → Nat} {b L i : Nat} {xs : Nat → Int32} {m n : Nat} {fa fb fr fc fR fD ft fo : Nat → Int32} (C0 : LC p s mi args c b L xs dC dI cA A) (hI : LI s dC dI A qx qy cA m n fa fb fr fc fR fD ft fo H locs) (hi : i + 3 ≤ L) (hl : lv_has ls 4 [(0, .ref b), (1, .ref (qx 0)), (2, .ref (qy 0)), (3, .int (nI i))]) (next : ∀ (m n : Nat) (fa fb fr fc fR fD ft fo : Nat → Int32) (H : Heap) (locs : List Loc), LI s dC dI A qx qy cA m n fa fb fr fc fR fD ft fo H locs → W p l e room_1 s mi args below meth c H locs 12 602 Q (F0 mi 532 ls [])) : W p l e room_1 s mi args below meth c H locs 12 602 Q (F0 mi 434 ls []) := by
  obtain ⟨C, hX0, hbl, hbA, hL⟩ := C0
  obtain ⟨hX, hY, hap, hv, hlt⟩ := hI
  have hm : m ≤ 10 := hv.1
  have hn : n ≤ 14 := hv.2.1
  have hx := C.1
  have hb := C.2.1
  refine lv_aload_n hx hb d_law_434 rfl (lv_at hl 1 rfl) ?_
  refine cl_i (n := 0) (ci := 0) (rest := []) C hX hY hap (c_X_nearest hv hlt) rfl rfl (tb_goodIn tl_law_64 ti_X_nearest ts_X_nearest tn_X tc_X_nearest) (by decide +kernel) ⟨Nat.le_of_ble_eq_true rfl, Nat.le_of_ble_eq_true rfl⟩ rfl hl rfl (Nat.le_of_ble_eq_true rfl) ⟨Nat.le_refl _, Nat.le_refl _⟩ d_law_435 (fun r u H locs hp hX hY hap => ?_)
  refine lv_aload_n hx hb d_law_438 rfl (lv_at hl 2 rfl) ?_
  refine cl_i (n := 0) (ci := 1) (rest := [.int r]) C hY hX hap.sy (c_Y_nearest hm hn) rfl rfl (tb_goodIn tl_law_67 ti_Y_nearest ts_Y_nearest tn_Y tc_Y_nearest) (by decide +kernel) ⟨Nat.le_of_ble_eq_true rfl, Nat.le_of_ble_eq_true rfl⟩ rfl hl rfl (Nat.le_of_ble_eq_true rfl) ⟨Nat.le_refl _, Nat.le_refl _⟩ d_law_439 (fun r2 u2 H locs hp2 hY hX hap => ?_)
  have e1 : r = r2 := sw_min_one hp hp2
  refine lv_icmp_eq (tgt := 532) hx hb d_law_442 (by decide) (fun c1 => ?_) (fun c1 => ?_)
  · exact next m n fa fb fr fc fR fD u2.1 u2.2 _ _ ⟨hX, hY, hap.sy, hv, hlt⟩
  · exact absurd e1 c1
set_option maxHeartbeats 4000000 in
set_option maxRecDepth 100000 in
theorem law_nearestAt {p : Program} {l : Launch} {e : Env} {s : State} {mi : MethodId} {args : Array Value} {below : List Frame} {meth : Method} {c : Code} {H : Heap} {locs : List Loc} {Q : State → Prop} {ls : Array Slot} {dC : Nat → ClassId} {dI : Nat → Nat → Nat} {cA : ClassId} {A : Nat → Prop} {qx qy : Nat → Nat} {b L i : Nat} {xs : Nat → Int32} {m n : Nat} {fa fb fr fc fR fD ft fo : Nat → Int32} (C0 : LC p s mi args c b L xs dC dI cA A) (hI : LI s dC dI A qx qy cA m n fa fb fr fc fR fD ft fo H locs) (hi : i + 3 ≤ L) (hl : lv_has ls 4 [(0, .ref b), (1, .ref (qx 0)), (2, .ref (qy 0)), (3, .int (nI i))]) (next : ∀ (m n : Nat) (fa fb fr fc fR fD ft fo : Nat → Int32) (H : Heap) (locs : List Loc), LI s dC dI A qx qy cA m n fa fb fr fc fR fD ft fo H locs → W p l e room_1 s mi args below meth c H locs 12 602 Q (F0 mi 532 ls [])) : W p l e room_1 s mi args below meth c H locs 12 602 Q (F0 mi 447 ls []) := by
  obtain ⟨C, hX0, hbl, hbA, hL⟩ := C0
  obtain ⟨hX, hY, hap, hv, hlt⟩ := hI
  have hm : m ≤ 10 := hv.1
  have hn : n ≤ 14 := hv.2.1
  have hx := C.1
  have hb := C.2.1
  refine lv_aload_n hx hb d_law_447 rfl (lv_at hl 1 rfl) ?_
  refine cl_i (n := 0) (ci := 0) (rest := []) C hX hY hap (c_X_nearestAt hv hlt) rfl rfl (tb_goodIn tl_law_68 ti_X_nearestAt ts_X_nearestAt tn_X tc_X_nearestAt) (by decide +kernel) ⟨Nat.le_of_ble_eq_true rfl, Nat.le_of_ble_eq_true rfl⟩ rfl hl rfl (Nat.le_of_ble_eq_true rfl) ⟨Nat.le_refl _, Nat.le_refl _⟩ d_law_448 (fun r u H locs hp hX hY hap => ?_)
  refine lv_aload_n hx hb d_law_451 rfl (lv_at hl 2 rfl) ?_
  refine cl_i (n := 0) (ci := 1) (rest := [.int r]) C hY hX hap.sy (c_Y_nearestAt hm hn) rfl rfl (tb_goodIn tl_law_71 ti_Y_nearestAt ts_Y_nearestAt tn_Y tc_Y_nearestAt) (by decide +kernel) ⟨Nat.le_of_ble_eq_true rfl, Nat.le_of_ble_eq_true rfl⟩ rfl hl rfl (Nat.le_of_ble_eq_true rfl) ⟨Nat.le_refl _, Nat.le_refl _⟩ d_law_452 (fun r2 u2 H locs hp2 hY hX hap => ?_)
  have e1 : r = r2 := sw_at_one hp hp2
  refine lv_icmp_eq (tgt := 532) hx hb d_law_455 (by decide) (fun c1 => ?_) (fun c1 => ?_)
  · exact next m n fa fb fr fc fR fD u2.1 u2.2 _ _ ⟨hX, hY, hap.sy, hv, hlt⟩
  · exact absurd e1 c1
set_option maxHeartbeats 4000000 in
set_option maxRecDepth 100000 in
theorem law_shortest {p : Program} {l : Launch} {e : Env} {s : State} {mi : MethodId} {args : Array Value} {below : List Frame} {meth : Method} {c : Code} {H : Heap} {locs : List Loc} {Q : State → Prop} {ls : Array Slot} {dC : Nat → ClassId} {dI : Nat → Nat → Nat} {cA : ClassId} {A : Nat → Prop} {qx qy : Nat → Nat} {b L i : Nat} {xs : Nat → Int32} {m n : Nat} {fa fb fr fc fR fD ft fo : Nat → Int32} (C0 : LC p s mi args c b L xs dC dI cA A) (hI : LI s dC dI A qx qy cA m n fa fb fr fc fR fD ft fo H locs) (hi : i + 3 ≤ L) (hl : lv_has ls 4 [(0, .ref b), (1, .ref (qx 0)), (2, .ref (qy 0)), (3, .int (nI i))]) (next : ∀ (m n : Nat) (fa fb fr fc fR fD ft fo : Nat → Int32) (H : Heap) (locs : List Loc), LI s dC dI A qx qy cA m n fa fb fr fc fR fD ft fo H locs → W p l e room_1 s mi args below meth c H locs 12 602 Q (F0 mi 532 ls [])) : W p l e room_1 s mi args below meth c H locs 12 602 Q (F0 mi 460 ls []) := by
  obtain ⟨C, hX0, hbl, hbA, hL⟩ := C0
  obtain ⟨hX, hY, hap, hv, hlt⟩ := hI
  have hm : m ≤ 10 := hv.1
  have hn : n ≤ 14 := hv.2.1
  have hx := C.1
  have hb := C.2.1
  refine lv_aload_n hx hb d_law_460 rfl (lv_at hl 1 rfl) ?_
  refine lv_aload_n hx hb d_law_461 rfl (lv_at hl 0 rfl) ?_
  refine lv_iload_n hx hb d_law_462 rfl (lv_at hl 3 rfl) ?_
  refine lv_iconst (v := nI 1) hx hb d_law_463 (by decide) ?_
  refine ni_add hx hb d_law_464 ?_
  refine sl_ld hx hb hX0 hbl hbA hX (i + 1) (by omega) hL d_law_465 ?_
  refine cl_i (n := 1) (ci := 0) (rest := []) C hX hY hap (c_X_shortest (k := xs (i + 1)) hv) rfl rfl (tb_goodIn tl_law_72 ti_X_shortest ts_X_shortest tn_X tc_X_shortest) (by decide +kernel) ⟨Nat.le_of_ble_eq_true rfl, Nat.le_of_ble_eq_true rfl⟩ rfl hl rfl (Nat.le_of_ble_eq_true rfl) ⟨Nat.le_refl _, Nat.le_refl _⟩ d_law_466 (fun r u H locs hp hX hY hap => ?_)
  refine lv_aload_n hx hb d_law_469 rfl (lv_at hl 2 rfl) ?_
  refine lv_aload_n hx hb d_law_470 rfl (lv_at hl 0 rfl) ?_
  refine lv_iload_n hx hb d_law_471 rfl (lv_at hl 3 rfl) ?_
  refine lv_iconst (v := nI 1) hx hb d_law_472 (by decide) ?_
  refine ni_add hx hb d_law_473 ?_
  refine sl_ld hx hb hX0 hbl hbA hX (i + 1) (by omega) hL d_law_474 ?_
  refine cl_i (n := 1) (ci := 1) (rest := [.int r]) C hY hX hap.sy (c_Y_shortest (k := xs (i + 1)) hm hn) rfl rfl (tb_goodIn tl_law_75 ti_Y_shortest ts_Y_shortest tn_Y tc_Y_shortest) (by decide +kernel) ⟨Nat.le_of_ble_eq_true rfl, Nat.le_of_ble_eq_true rfl⟩ rfl hl rfl (Nat.le_of_ble_eq_true rfl) ⟨Nat.le_refl _, Nat.le_refl _⟩ d_law_475 (fun r2 u2 H locs hp2 hY hX hap => ?_)
  have e1 : r = r2 := sw_short_one hp hp2
  refine lv_icmp_eq (tgt := 532) hx hb d_law_478 (by decide) (fun c1 => ?_) (fun c1 => ?_)
  · exact next m n fa fb fr fc fR fD u2.1 u2.2 _ _ ⟨hX, hY, hap.sy, hv, hlt⟩
  · exact absurd e1 c1
set_option maxHeartbeats 4000000 in
set_option maxRecDepth 100000 in
theorem law_widest {p : Program} {l : Launch} {e : Env} {s : State} {mi : MethodId} {args : Array Value} {below : List Frame} {meth : Method} {c : Code} {H : Heap} {locs : List Loc} {Q : State → Prop} {ls : Array Slot} {dC : Nat → ClassId} {dI : Nat → Nat → Nat} {cA : ClassId} {A : Nat → Prop} {qx qy : Nat → Nat} {b L i : Nat} {xs : Nat → Int32} {m n : Nat} {fa fb fr fc fR fD ft fo : Nat → Int32} (C0 : LC p s mi args c b L xs dC dI cA A) (hI : LI s dC dI A qx qy cA m n fa fb fr fc fR fD ft fo H locs) (hi : i + 3 ≤ L) (hl : lv_has ls 4 [(0, .ref b), (1, .ref (qx 0)), (2, .ref (qy 0)), (3, .int (nI i))]) (next : ∀ (m n : Nat) (fa fb fr fc fR fD ft fo : Nat → Int32) (H : Heap) (locs : List Loc), LI s dC dI A qx qy cA m n fa fb fr fc fR fD ft fo H locs → W p l e room_1 s mi args below meth c H locs 12 602 Q (F0 mi 532 ls [])) : W p l e room_1 s mi args below meth c H locs 12 602 Q (F0 mi 483 ls []) := by
  obtain ⟨C, hX0, hbl, hbA, hL⟩ := C0
  obtain ⟨hX, hY, hap, hv, hlt⟩ := hI
  have hm : m ≤ 10 := hv.1
  have hn : n ≤ 14 := hv.2.1
  have hx := C.1
  have hb := C.2.1
  refine lv_aload_n hx hb d_law_483 rfl (lv_at hl 1 rfl) ?_
  refine lv_aload_n hx hb d_law_484 rfl (lv_at hl 0 rfl) ?_
  refine lv_iload_n hx hb d_law_485 rfl (lv_at hl 3 rfl) ?_
  refine lv_iconst (v := nI 1) hx hb d_law_486 (by decide) ?_
  refine ni_add hx hb d_law_487 ?_
  refine sl_ld hx hb hX0 hbl hbA hX (i + 1) (by omega) hL d_law_488 ?_
  refine cl_i (n := 1) (ci := 0) (rest := []) C hX hY hap (c_X_widest (x := xs (i + 1)) hv) rfl rfl (tb_goodIn tl_law_76 ti_X_widest ts_X_widest tn_X tc_X_widest) (by decide +kernel) ⟨Nat.le_of_ble_eq_true rfl, Nat.le_of_ble_eq_true rfl⟩ rfl hl rfl (Nat.le_of_ble_eq_true rfl) ⟨Nat.le_refl _, Nat.le_refl _⟩ d_law_489 (fun r u H locs hp hX hY hap => ?_)
  refine lv_aload_n hx hb d_law_492 rfl (lv_at hl 2 rfl) ?_
  refine lv_aload_n hx hb d_law_493 rfl (lv_at hl 0 rfl) ?_
  refine lv_iload_n hx hb d_law_494 rfl (lv_at hl 3 rfl) ?_
  refine lv_iconst (v := nI 1) hx hb d_law_495 (by decide) ?_
  refine ni_add hx hb d_law_496 ?_
  refine sl_ld hx hb hX0 hbl hbA hX (i + 1) (by omega) hL d_law_497 ?_
  refine cl_i (n := 1) (ci := 1) (rest := [.int r]) C hY hX hap.sy (c_Y_widest (x := xs (i + 1)) hm hn) rfl rfl (tb_goodIn tl_law_79 ti_Y_widest ts_Y_widest tn_Y tc_Y_widest) (by decide +kernel) ⟨Nat.le_of_ble_eq_true rfl, Nat.le_of_ble_eq_true rfl⟩ rfl hl rfl (Nat.le_of_ble_eq_true rfl) ⟨Nat.le_refl _, Nat.le_refl _⟩ d_law_498 (fun r2 u2 H locs hp2 hY hX hap => ?_)
  have e1 : r = r2 := hp.trans hp2.symm
  refine lv_icmp_eq (tgt := 532) hx hb d_law_501 (by decide) (fun c1 => ?_) (fun c1 => ?_)
  · exact next m n fa fb fr fc fR fD u2.1 u2.2 _ _ ⟨hX, hY, hap.sy, hv, hlt⟩
  · exact absurd e1 c1
set_option maxHeartbeats 4000000 in
set_option maxRecDepth 100000 in
theorem law_rotated {p : Program} {l : Launch} {e : Env} {s : State} {mi : MethodId} {args : Array Value} {below : List Frame} {meth : Method} {c : Code} {H : Heap} {locs : List Loc} {Q : State → Prop} {ls : Array Slot} {dC : Nat → ClassId} {dI : Nat → Nat → Nat} {cA : ClassId} {A : Nat → Prop} {qx qy : Nat → Nat} {b L i : Nat} {xs : Nat → Int32} {m n : Nat} {fa fb fr fc fR fD ft fo : Nat → Int32} (C0 : LC p s mi args c b L xs dC dI cA A) (hI : LI s dC dI A qx qy cA m n fa fb fr fc fR fD ft fo H locs) (hi : i + 3 ≤ L) (hl : lv_has ls 4 [(0, .ref b), (1, .ref (qx 0)), (2, .ref (qy 0)), (3, .int (nI i))]) (next : ∀ (m n : Nat) (fa fb fr fc fR fD ft fo : Nat → Int32) (H : Heap) (locs : List Loc), LI s dC dI A qx qy cA m n fa fb fr fc fR fD ft fo H locs → W p l e room_1 s mi args below meth c H locs 12 602 Q (F0 mi 532 ls [])) : W p l e room_1 s mi args below meth c H locs 12 602 Q (F0 mi 506 ls []) := by
  obtain ⟨C, hX0, hbl, hbA, hL⟩ := C0
  obtain ⟨hX, hY, hap, hv, hlt⟩ := hI
  have hm : m ≤ 10 := hv.1
  have hn : n ≤ 14 := hv.2.1
  have hx := C.1
  have hb := C.2.1
  refine lv_aload_n hx hb d_law_506 rfl (lv_at hl 1 rfl) ?_
  refine cl_i (n := 0) (ci := 0) (rest := []) C hX hY hap (c_X_rotated hv) rfl rfl (tb_goodIn tl_law_80 ti_X_rotated ts_X_rotated tn_X tc_X_rotated) (by decide +kernel) ⟨Nat.le_of_ble_eq_true rfl, Nat.le_of_ble_eq_true rfl⟩ rfl hl rfl (Nat.le_of_ble_eq_true rfl) ⟨Nat.le_refl _, Nat.le_refl _⟩ d_law_507 (fun r u H locs hp hX hY hap => ?_)
  refine lv_aload_n hx hb d_law_510 rfl (lv_at hl 2 rfl) ?_
  refine cl_i (n := 0) (ci := 1) (rest := [.int r]) C hY hX hap.sy (c_Y_rotated hm hn) rfl rfl (tb_goodIn tl_law_83 ti_Y_rotated ts_Y_rotated tn_Y tc_Y_rotated) (by decide +kernel) ⟨Nat.le_of_ble_eq_true rfl, Nat.le_of_ble_eq_true rfl⟩ rfl hl rfl (Nat.le_of_ble_eq_true rfl) ⟨Nat.le_refl _, Nat.le_refl _⟩ d_law_511 (fun r2 u2 H locs hp2 hY hX hap => ?_)
  have e1 : r = r2 := hp.1.trans hp2.symm
  refine lv_icmp_eq (tgt := 532) hx hb d_law_514 (by decide) (fun c1 => ?_) (fun c1 => ?_)
  · exact next m n fa fb u.1 u.2.1 u.2.2.1 u.2.2.2 u2.1 u2.2 _ _ ⟨hX, hY, hap.sy, hp.2, hlt⟩
  · exact absurd e1 c1
set_option maxHeartbeats 4000000 in
set_option maxRecDepth 100000 in
theorem law_tight {p : Program} {l : Launch} {e : Env} {s : State} {mi : MethodId} {args : Array Value} {below : List Frame} {meth : Method} {c : Code} {H : Heap} {locs : List Loc} {Q : State → Prop} {ls : Array Slot} {dC : Nat → ClassId} {dI : Nat → Nat → Nat} {cA : ClassId} {A : Nat → Prop} {qx qy : Nat → Nat} {b L i : Nat} {xs : Nat → Int32} {m n : Nat} {fa fb fr fc fR fD ft fo : Nat → Int32} (C0 : LC p s mi args c b L xs dC dI cA A) (hI : LI s dC dI A qx qy cA m n fa fb fr fc fR fD ft fo H locs) (hi : i + 3 ≤ L) (hl : lv_has ls 4 [(0, .ref b), (1, .ref (qx 0)), (2, .ref (qy 0)), (3, .int (nI i))]) (next : ∀ (m n : Nat) (fa fb fr fc fR fD ft fo : Nat → Int32) (H : Heap) (locs : List Loc), LI s dC dI A qx qy cA m n fa fb fr fc fR fD ft fo H locs → W p l e room_1 s mi args below meth c H locs 12 602 Q (F0 mi 532 ls [])) : W p l e room_1 s mi args below meth c H locs 12 602 Q (F0 mi 519 ls []) := by
  obtain ⟨C, hX0, hbl, hbA, hL⟩ := C0
  obtain ⟨hX, hY, hap, hv, hlt⟩ := hI
  have hm : m ≤ 10 := hv.1
  have hn : n ≤ 14 := hv.2.1
  have hx := C.1
  have hb := C.2.1
  refine lv_aload_n hx hb d_law_519 rfl (lv_at hl 1 rfl) ?_
  refine cl_i (n := 0) (ci := 0) (rest := []) C hX hY hap (c_X_tight hv) rfl rfl (tb_goodIn tl_law_84 ti_X_tight ts_X_tight tn_X tc_X_tight) (by decide +kernel) ⟨Nat.le_of_ble_eq_true rfl, Nat.le_of_ble_eq_true rfl⟩ rfl hl rfl (Nat.le_of_ble_eq_true rfl) ⟨Nat.le_refl _, Nat.le_refl _⟩ d_law_520 (fun r u H locs hp hX hY hap => ?_)
  refine lv_aload_n hx hb d_law_523 rfl (lv_at hl 2 rfl) ?_
  refine cl_i (n := 0) (ci := 1) (rest := [.int r]) C hY hX hap.sy (c_Y_tight hm hn) rfl rfl (tb_goodIn tl_law_87 ti_Y_tight ts_Y_tight tn_Y tc_Y_tight) (by decide +kernel) ⟨Nat.le_of_ble_eq_true rfl, Nat.le_of_ble_eq_true rfl⟩ rfl hl rfl (Nat.le_of_ble_eq_true rfl) ⟨Nat.le_refl _, Nat.le_refl _⟩ d_law_524 (fun r2 u2 H locs hp2 hY hX hap => ?_)
  have e1 : r = r2 := hp.trans hp2.symm
  refine lv_icmp_eq (tgt := 532) hx hb d_law_527 (by decide) (fun c1 => ?_) (fun c1 => ?_)
  · exact next m n fa fb fr fc fR fD u2.1 u2.2 _ _ ⟨hX, hY, hap.sy, hv, hlt⟩
  · exact absurd e1 c1
end
section
/-! THE CLAIM: what stands ahead of the loop and behind whole_start is of the kit's SKELETON.whole (a starting text); the rest printed by gen_law.py -/
def lw_P (b : Addr) (xs : List Int32) (args : Array Value) (s : State) : Prop := args = #[.ref b] ∧ s.IntsAt b xs ∧ xs.length ≤ 1536 ∧ (Jvm.Cond.and given_1 narrow_1).before args s = true
def lw_Q (_ : Array Value) (s : State) (o : Outcome) (t : State) : Prop := o = .returned (some (.int 1)) ∧ Framed s o t [] 12 602
def lw_Z (below : List Frame) (a : Array Value) (s : State) : State → Prop := fun t => ∃ o, t.status = .running ∧ Ended t below o ∧ lw_Q a s o t
/-- the law's own end, with 1 on the stack, nothing written that was there before, its room as the claim has it -/
theorem lw_ret {p : Program} {l : Launch} {e : Env} {s : State} {m : MethodId} {below : List Frame} {meth : Method} {c : Code} {b : Nat} (hx : p.tables.exec = Jvm.exec) (hb : c.code = code) (hr : meth.sig.returnType = ret) (hlocks : meth.locks = false) {pc : Nat} {H : Heap} {ls : Array Slot} (hdg : decode code pc = .ok (.ireturn, 1)) : W p l e room_1 s m #[Value.ref b] below meth c H [] 12 602 (lw_Z below #[Value.ref b] s) (F0 m pc ls [.int 1]) := by
  intro T hT X
  obtain ⟨fs, hret, hrun, hended, hW, hframe⟩ := X.leave (v := some (.int 1)) (hlocks := hlocks) (fun h => by rw [hr] at h; cases h)
  have hmeth' : T.vm.method? m = some meth := X.method'
  refine ⟨T.setFrames fs, ?_, .returned (some (.int 1)), hrun, hended, rfl, ⟨_, rfl⟩, hW, hframe⟩
  jvm_step X.here [X.here.top, hx, hb, hdg, hmeth', hr, ret, narrow_b1]
  (try refine ⟨rfl, ?_⟩); (try refine ⟨rfl, ?_⟩)
  first | (intro acts; rw [hret _ acts rfl rfl rfl]) | rw [hret _ _ rfl rfl rfl]
  exact Steps.refl _
/-- what holds at the law's entry: the machine, the code, the tables' words (any of lw_tbl by 'hts w (by decide +kernel)'), the script of L ints xs at the cell b, what the Statement gives of the start (any of its parts by flat_of_before) -/
def lw_At (p : Program) (s : State) (m : MethodId) (meth : Method) (c : Code) (b L : Nat) (xs : Nat → Int32) : Prop :=
  p.tables.exec = Jvm.exec ∧ c.code = code ∧ meth.sig.returnType = ret ∧ c.maxLocals = 4 ∧ s.vm.findClass R_law = some m.cls ∧ (∀ w ∈ lw_tbl, w.before #[Value.ref b] s = true) ∧ va_X b L xs s s.heap ∧ b < s.heap.size ∧ meth.locks = false ∧ (Jvm.Cond.and given_1 narrow_1).before #[Value.ref b] s = true
set_option maxHeartbeats 4000000 in
set_option maxRecDepth 100000 in
/-- THE LAW'S LOOP -/
theorem law_loop {p : Program} {l : Launch} {e : Env} {s : State} {mi : MethodId} {below : List Frame} {meth : Method} {c : Code} {dC : Nat → ClassId} {dI : Nat → Nat → Nat} {cA : ClassId} {qx qy : Nat → Nat} {b L : Nat} {xs : Nat → Int32} (hr : meth.sig.returnType = ret) (hlocks : meth.locks = false) (C0 : LC p s mi #[Value.ref b] c b L xs dC dI cA (fun q : Nat => s.heap.size ≤ q)) :
    ∀ (fuel i : Nat), i ≤ L → L < i + fuel → ∀ (m n : Nat) (fa fb fr fc fR fD ft fo : Nat → Int32) (H : Heap) (locs : List Loc) (ls : Array Slot), LI s dC dI (fun q : Nat => s.heap.size ≤ q) qx qy cA m n fa fb fr fc fR fD ft fo H locs → lv_has ls 4 [(0, .ref b), (1, .ref (qx 0)), (2, .ref (qy 0)), (3, .int (nI i))] → W p l e room_1 s mi #[Value.ref b] below meth c H locs 12 602 (lw_Z below #[Value.ref b] s) (F0 mi 18 ls []) := by
  have hx := C0.1.1
  have hb := C0.1.2.1
  obtain ⟨hX0, hbl, hbA, hL⟩ := C0.2
  intro fuel
  induction fuel with
  | zero => intro i h1 h2; exact absurd h2 (by omega)
  | succ fuel ih =>
    intro i hi hfu m n fa fb fr fc fR fD ft fo H locs ls hI hl
    refine lv_iload_n hx hb d_law_18 rfl (lv_at hl 3 rfl) ?_
    refine lv_aload_n hx hb d_law_19 rfl (lv_at hl 0 rfl) ?_
    refine va_slen hx hb hX0 hbl hbA hI.1.2.2 d_law_20 ?_
    refine lv_iconst (v := nI 3) hx hb d_law_21 (by decide) ?_
    refine lv_isub hx hb d_law_22 ?_
    have hsub : (Int32.ofNat L - nI 3).toInt = (L : Int) - 3 := pk_sub_toInt (a := L) (b := 3) (by omega) (by decide)
    refine lv_icmp_gt (tgt := 538) hx hb d_law_23 (by decide) (fun c1 => ?_) (fun c1 => ?_)
    · refine lv_iconst (v := 1) hx hb d_law_538 (by decide) ?_
      refine va_forget (fun q hq => hI.1.2.2.2.2 q hq) ?_
      refine W.widen (k := 12) (n := 602) (Nat.le_refl 12) (Nat.le_refl 602) ?_
      exact lw_ret hx hb hr hlocks d_law_539
    · have h3 : i + 3 ≤ L := by
        rw [sw_lt, hsub, nI_toInt (by omega)] at c1
        omega
      refine lv_aload_n hx hb d_law_26 rfl (lv_at hl 0 rfl) ?_
      refine lv_iload_n hx hb d_law_27 rfl (lv_at hl 3 rfl) ?_
      refine sl_ld hx hb hX0 hbl hbA hI.1 i (by omega) hL d_law_28 ?_
      refine lv_bipush (v := nI 31) hx hb d_law_29 (by decide) ?_
      refine lv_iand hx hb d_law_31 ?_
      obtain ⟨j, hj, ej⟩ := pk_andE (xs i) (m := nI 31) 5 (by decide)
      refine ni_top (y := nI j) ej ?_
      have next : ∀ (m n : Nat) (fa fb fr fc fR fD ft fo : Nat → Int32) (H : Heap) (locs : List Loc), LI s dC dI (fun q : Nat => s.heap.size ≤ q) qx qy cA m n fa fb fr fc fR fD ft fo H locs → W p l e room_1 s mi #[Value.ref b] below meth c H locs 12 602 (lw_Z below #[Value.ref b] s) (F0 mi 532 ls []) := by
        intro m n fa fb fr fc fR fD ft fo H locs hI
        refine lv_iinc (v := nI (i + 3)) (lv' := [(3, .int (nI (i + 3))), (0, .ref b), (1, .ref (qx 0)), (2, .ref (qy 0))]) hx hb d_law_532 hl (k := 3) rfl (nI_add i 3) (by decide) rfl (fun ls hl => ?_)
        refine lv_goto (tgt := 18) hx hb d_law_535 (by decide) ?_
        exact ih (i + 3) h3 (by omega) m n fa fb fr fc fR fD ft fo H locs ls hI (lv_sub hl [1, 2, 3, 0] rfl)
      rcases (show j = 0 ∨ j = 1 ∨ j = 2 ∨ j = 3 ∨ j = 4 ∨ j = 5 ∨ j = 6 ∨ j = 7 ∨ j = 8 ∨ j = 9 ∨ j = 10 ∨ j = 11 ∨ j = 12 ∨ j = 13 ∨ j = 14 ∨ j = 15 ∨ j = 16 ∨ j = 17 ∨ 18 ≤ j by omega) with rfl | rfl | rfl | rfl | rfl | rfl | rfl | rfl | rfl | rfl | rfl | rfl | rfl | rfl | rfl | rfl | rfl | rfl | h18
      · refine lv_tableIn (off := 88) (tgt := 120) hx hb d_law_32 (by decide) (by decide) (by decide) (by decide) ?_
        exact law_growA C0 hI h3 hl next
      · refine lv_tableIn (off := 111) (tgt := 143) hx hb d_law_32 (by decide) (by decide) (by decide) (by decide) ?_
        exact law_growB C0 hI h3 hl next
      · refine lv_tableIn (off := 134) (tgt := 166) hx hb d_law_32 (by decide) (by decide) (by decide) (by decide) ?_
        exact law_putA C0 hI h3 hl next
      · refine lv_tableIn (off := 167) (tgt := 199) hx hb d_law_32 (by decide) (by decide) (by decide) (by decide) ?_
        exact law_shiftB C0 hI h3 hl next
      · refine lv_tableIn (off := 180) (tgt := 212) hx hb d_law_32 (by decide) (by decide) (by decide) (by decide) ?_
        exact law_clear C0 hI h3 hl next
      · refine lv_tableIn (off := 191) (tgt := 223) hx hb d_law_32 (by decide) (by decide) (by decide) (by decide) ?_
        exact law_lengths C0 hI h3 hl next
      · refine lv_tableIn (off := 204) (tgt := 236) hx hb d_law_32 (by decide) (by decide) (by decide) (by decide) ?_
        exact law_commonB C0 hI h3 hl next
      · refine lv_tableIn (off := 237) (tgt := 269) hx hb d_law_32 (by decide) (by decide) (by decide) (by decide) ?_
        exact law_commonA C0 hI h3 hl next
      · refine lv_tableIn (off := 270) (tgt := 302) hx hb d_law_32 (by decide) (by decide) (by decide) (by decide) ?_
        exact law_commonEnd C0 hI h3 hl next
      · refine lv_tableIn (off := 303) (tgt := 335) hx hb d_law_32 (by decide) (by decide) (by decide) (by decide) ?_
        exact law_commonBegin C0 hI h3 hl next
      · refine lv_tableIn (off := 336) (tgt := 368) hx hb d_law_32 (by decide) (by decide) (by decide) (by decide) ?_
        exact law_changesB C0 hI h3 hl next
      · refine lv_tableIn (off := 369) (tgt := 401) hx hb d_law_32 (by decide) (by decide) (by decide) (by decide) ?_
        exact law_changesA C0 hI h3 hl next
      · refine lv_tableIn (off := 402) (tgt := 434) hx hb d_law_32 (by decide) (by decide) (by decide) (by decide) ?_
        exact law_nearest C0 hI h3 hl next
      · refine lv_tableIn (off := 415) (tgt := 447) hx hb d_law_32 (by decide) (by decide) (by decide) (by decide) ?_
        exact law_nearestAt C0 hI h3 hl next
      · refine lv_tableIn (off := 428) (tgt := 460) hx hb d_law_32 (by decide) (by decide) (by decide) (by decide) ?_
        exact law_shortest C0 hI h3 hl next
      · refine lv_tableIn (off := 451) (tgt := 483) hx hb d_law_32 (by decide) (by decide) (by decide) (by decide) ?_
        exact law_widest C0 hI h3 hl next
      · refine lv_tableIn (off := 474) (tgt := 506) hx hb d_law_32 (by decide) (by decide) (by decide) (by decide) ?_
        exact law_rotated C0 hI h3 hl next
      · refine lv_tableIn (off := 487) (tgt := 519) hx hb d_law_32 (by decide) (by decide) (by decide) (by decide) ?_
        exact law_tight C0 hI h3 hl next
      · refine lv_tableOut (tgt := 532) hx hb d_law_32 (Or.inr (by rw [nI_toInt (by omega)]; omega)) (by decide) ?_
        exact next m n fa fb fr fc fR fD ft fo H locs hI
/-- at the begin nothing is combed -/
theorem sw_inv_0 : sw_inv 0 0 (fun _ => 0) (fun _ => 0) (fun _ => 0) (fun _ => 0) (fun _ => 0) (fun _ => 0) := ⟨by decide, by decide, nI_0.symm, nI_0.symm, nI_0.symm, nI_0.symm, sw_cb_00 _ _ _ _ _, sw_cb_00 _ _ _ _ _⟩
set_option maxHeartbeats 4000000 in
set_option maxRecDepth 100000 in
/-- THE LAW, from its entry -/
theorem whole_start {p : Program} {e : Env} {s : State} {m : MethodId} {below : List Frame} {meth : Method} {c : Code} (l : Launch) {b L : Nat} {xs : Nat → Int32} (hL : L ≤ 1536) (C0 : lw_At p s m meth c b L xs) : W p l e room_1 s m #[Value.ref b] below meth c s.heap [] 0 0 (lw_Z below #[Value.ref b] s) (entryFrame m ([Value.ref b] : List Value).toArray 4) := by
  obtain ⟨hx, hb, hr, hml, hown, hts0, hX, hbl, hlocks, hgv⟩ := id C0
  have hts : ∀ w ∈ tb_ws, w.before #[Value.ref b] s = true := fun w hw => hts0 w (tb_sub hw)
  have hA : ∀ q : Nat, s.heap.size ≤ q → (fun q : Nat => s.heap.size ≤ q) q := fun _ h => h
  have hbA : ¬ (fun q : Nat => s.heap.size ≤ q) b := Nat.not_le.mpr hbl
  obtain ⟨c0, iS0, hKn0⟩ := u_known (C := R_X) (T := F_X) (N := 8) (n := 8) hts i_X (hts _ tq_X)
  obtain ⟨c1, iS1, hKn1⟩ := u_known (C := R_Y) (T := F_Y) (N := 6) (n := 6) hts i_Y (hts _ tq_Y)
  obtain ⟨dC, dI, hKc⟩ : ∃ (dC : Nat → ClassId) (dI : Nat → Nat → Nat), ∀ (k : Nat) (q : vw_C), classes[k]? = some q → u_Kn s q.1 q.2.1 q.2.2 (dC k) (dI k) := by
    refine ⟨fun k => if k = 0 then c0 else c1, fun k => if k = 0 then iS0 else iS1, ?_⟩
    intro k q hq
    match k, hq with
    | 0, hq => cases hq; exact hKn0
    | 1, hq => cases hq; exact hKn1
    | k + 2, hq => simp [classes] at hq
  have hS : va_S (fun q : Nat => s.heap.size ≤ q) s.heap s.heap [] := va_S.rf
  have hK : va_K (dC, dI) classes [] s := ⟨hKc, fun k q h => by simp at h⟩
  have hP : va_P (dC, dI) classes [] s.heap := fun k q h => by simp at h
  have hD : va_D (fun q : Nat => s.heap.size ≤ q) [] := ⟨fun i j p q h => by simp at h, fun k q h => by simp at h⟩
  have hl := lv_entry ([.ref b]) (n := 4) (Nat.le_of_ble_eq_true rfl)
  rw [lg_entry_eq]
  generalize (lg_sl ([.ref b]) ++ List.replicate (4 - (lg_sl ([.ref b])).length) Slot.unset).toArray = ls at hl ⊢
  have hl : lv_has ls 4 [(0, .ref b)] := hl
  refine va_new (ci := 0) (fs := [.int 0, .null, .int 0, .null, .null, .null, .null, .null]) (C := R_X) (T := F_X) (N := 8) hx hb hts i_X t_X t_X_ok hown (hts _ tk_law_7) (hts _ tq_X) (hts _ tn_X) hK hP hD hS hA rfl (fun j hj => by rcases (show j = 0 ∨ j = 1 ∨ j = 2 ∨ j = 3 ∨ j = 4 ∨ j = 5 ∨ j = 6 ∨ j = 7 by omega) with rfl | rfl | rfl | rfl | rfl | rfl | rfl | rfl <;> rfl) (Nat.le_of_ble_eq_true rfl) (Nat.le_of_ble_eq_true rfl) d_law_0 (fun x0 H hP hD hS => ?_)
  have hP : va_P (dC, dI) classes [(x0, .inr (0, [.int 0, .null, .int 0, .null, .null, .null, .null, .null]))] H := hP
  have hD : va_D (fun q : Nat => s.heap.size ≤ q) [(x0, .inr (0, [.int 0, .null, .int 0, .null, .null, .null, .null, .null]))] := hD
  refine W.widen (k := 1) (n := 8) (by omega) (by omega) ?_
  refine lv_dup hx hb d_law_3 rfl ?_
  have hFc := va_free (wc := [(x0, .inr (0, [.int 0, .null, .int 0, .null, .null, .null, .null, .null]))]) hD hS hA [0] rfl
  refine va_callv (va_runI (As := []) (rest := [.ref x0]) ⟨hx, hb, hml, hown, hts⟩ (c_X_init l dC dI x0 H.size) (cwI 0 hts (tb_goodI tc_X_init) rfl rfl rfl (hts _ tn_X) (hts _ tl_law_9) (hts _ ti_X_init) rfl (by decide +kernel) ⟨Nat.le_of_ble_eq_true rfl, Nat.le_of_ble_eq_true rfl⟩) ⟨fun a U g mk q => by obtain ⟨q0, q1, qP, qK, qD⟩ := q; exact ⟨q0, q1, qP, va_K.moved (u := U) (U := U.calling g mk a) (Vm.Alike.refl U.vm) qK, qD⟩, fun U hU hW => ⟨rfl, by rw [hU], by rw [hU]; exact hP, va_K.moved hW.alike hK, hD.weaken (fun _ _ _ _ => trivial)⟩⟩ rfl rfl hl.1 rfl (lv_room (Nat.le_of_ble_eq_true rfl)) d_law_4 ⟨Nat.le_of_ble_eq_true rfl, Nat.le_of_ble_eq_true rfl⟩) hS (fun q _ h => hFc q h) hFc (fun u t H1 locs ht hvm hw hB hz1 hk1 hS => ?_)
  obtain ⟨qx, cA⟩ := u
  obtain ⟨hP1, hK1, hD1⟩ := hB
  rw [ht] at hP1
  have hK : va_K (dC, dI) classes [(cA, .int)] s := va_K.moved hvm.symm hK1
  have hq : qx 0 = x0 := hw
  subst hq
  have hP : va_P (dC, dI) classes (XW 0 0 (fun _ => 0) (fun _ => 0) (fun _ => 0) (fun _ => 0) (fun _ => 0) (fun _ => 0) qx cA) H1 := hP1
  have hD : va_D (fun q : Nat => s.heap.size ≤ q) (XW 0 0 (fun _ => 0) (fun _ => 0) (fun _ => 0) (fun _ => 0) (fun _ => 0) (fun _ => 0) qx cA) := hD1.weaken (fun _ q _ hq => hFc q.1 hq)
  generalize H1 = H at hP hS ⊢
  refine W.widen (k := 7) (n := 182) (by omega) (by omega) ?_
  refine lv_astore_n (lv' := [(1, .ref (qx 0)), (0, .ref b)]) hx hb d_law_7 rfl hl (by decide) rfl (fun ls hl => ?_)
  refine va_new (ci := 1) (fs := [.null, .null, .int 0, .int 0, .null, .null]) (C := R_Y) (T := F_Y) (N := 6) hx hb hts i_Y t_Y t_Y_ok hown (hts _ tk_law_10) (hts _ tq_Y) (hts _ tn_Y) hK hP hD hS hA rfl (fun j hj => by rcases (show j = 0 ∨ j = 1 ∨ j = 2 ∨ j = 3 ∨ j = 4 ∨ j = 5 by omega) with rfl | rfl | rfl | rfl | rfl | rfl <;> rfl) (Nat.le_of_ble_eq_true rfl) (Nat.le_of_ble_eq_true rfl) d_law_8 (fun y0 H hP hD hS => ?_)
  refine W.widen (k := 8) (n := 188) (by omega) (by omega) ?_
  refine lv_dup hx hb d_law_11 rfl ?_
  have hPc := hP.sub (ws' := [(y0, .inr (1, [.null, .null, .int 0, .int 0, .null, .null]))]) [7] rfl
  have hDc := hD.sub (ws' := [(y0, .inr (1, [.null, .null, .int 0, .int 0, .null, .null]))]) [7] (by decide) rfl
  have hKc := hK.sub (tys' := []) [] rfl
  have hFc := va_free (wc := [(y0, .inr (1, [.null, .null, .int 0, .int 0, .null, .null]))]) hD hS hA [7] rfl
  refine va_callv (va_runI (As := []) (rest := [.ref y0]) ⟨hx, hb, hml, hown, hts⟩ (c_Y_init l dC dI y0 H.size) (cwI 0 hts (tb_goodI tc_Y_init) rfl rfl rfl (hts _ tn_Y) (hts _ tl_law_12) (hts _ ti_Y_init) rfl (by decide +kernel) ⟨Nat.le_of_ble_eq_true rfl, Nat.le_of_ble_eq_true rfl⟩) ⟨fun a U g mk q => by obtain ⟨q0, q1, qP, qK, qD⟩ := q; exact ⟨q0, q1, qP, va_K.moved (u := U) (U := U.calling g mk a) (Vm.Alike.refl U.vm) qK, qD⟩, fun U hU hW => ⟨rfl, by rw [hU], by rw [hU]; exact hPc, va_K.moved hW.alike hKc, hDc.weaken (fun _ _ _ _ => trivial)⟩⟩ rfl rfl hl.1 rfl (lv_room (Nat.le_of_ble_eq_true rfl)) d_law_12 ⟨Nat.le_of_ble_eq_true rfl, Nat.le_of_ble_eq_true rfl⟩) hS (fun q _ h => hFc q h) hFc (fun u t H1 locs ht hvm hw2 hB hz1 hk2 hS => ?_)
  obtain ⟨qy, cB⟩ := u
  obtain ⟨hP2, hK2, hD2⟩ := hB
  rw [ht] at hP2
  have hKB : va_K (dC, dI) classes [(cB, .int)] s := va_K.moved hvm.symm hK2
  have ec : cB = cA := cA_one (i := 0) (j := 1) (hK.app hKB) rfl rfl
  subst ec
  have hq : qy 0 = y0 := hw2
  subst hq
  obtain ⟨hP, hD⟩ := va_join (wr := XW 0 0 (fun _ => 0) (fun _ => 0) (fun _ => 0) (fun _ => 0) (fun _ => 0) (fun _ => 0) qx cB) (w1 := YW 0 0 (fun _ => 0) (fun _ => 0) (fun _ => 0) (fun _ => 0) qy cB) hP hD [7] [0, 1, 2, 3, 4, 5, 6] rfl rfl (by decide) (by decide) hk2 hFc hP2 hD2
  have hap := AP.of hD
  have hPX := hP.sub (ws' := XW 0 0 (fun _ => 0) (fun _ => 0) (fun _ => 0) (fun _ => 0) (fun _ => 0) (fun _ => 0) qx cB) [0, 1, 2, 3, 4, 5, 6] rfl
  have hDX := hD.sub (ws' := XW 0 0 (fun _ => 0) (fun _ => 0) (fun _ => 0) (fun _ => 0) (fun _ => 0) (fun _ => 0) qx cB) [0, 1, 2, 3, 4, 5, 6] (by decide) rfl
  have hPY := hP.sub (ws' := YW 0 0 (fun _ => 0) (fun _ => 0) (fun _ => 0) (fun _ => 0) qy cB) [7, 8, 9, 10, 11] rfl
  have hDY := hD.sub (ws' := YW 0 0 (fun _ => 0) (fun _ => 0) (fun _ => 0) (fun _ => 0) qy cB) [7, 8, 9, 10, 11] (by decide) rfl
  refine W.widen (k := 12) (n := 602) (by omega) (by omega) ?_
  refine lv_astore_n (lv' := [(2, .ref (qy 0)), (1, .ref (qx 0)), (0, .ref b)]) hx hb d_law_15 rfl hl (by decide) rfl (fun ls hl => ?_)
  refine lv_iconst (v := nI 0) hx hb d_law_16 (by decide) ?_
  refine lv_istore_n (lv' := [(3, .int (nI 0)), (2, .ref (qy 0)), (1, .ref (qx 0)), (0, .ref b)]) hx hb d_law_17 rfl hl (by decide) rfl (fun ls hl => ?_)
  have hI : LI s dC dI (fun q : Nat => s.heap.size ≤ q) qx qy cB 0 0 (fun _ => 0) (fun _ => 0) (fun _ => 0) (fun _ => 0) (fun _ => 0) (fun _ => 0) (fun _ => 0) (fun _ => 0) H1 locs := by
    unfold LI
    rw [nI_0]
    exact ⟨⟨hPX, hDX, hS⟩, ⟨hPY, hDY, hS⟩, hap, sw_inv_0, fun i hi => absurd hi (Nat.not_lt_zero i), fun i hi => absurd hi (Nat.not_lt_zero i)⟩
  exact law_loop hr hlocks ⟨⟨hx, hb, hml, hown, hts, hK, hA⟩, hX, hbl, hbA, hL⟩ (L + 1) 0 (Nat.zero_le L) (by omega) 0 0 _ _ _ _ _ _ _ _ _ _ ls hI (lv_sub hl [3, 2, 1, 0] rfl)
set_option maxHeartbeats 4000000 in
theorem lw_walk (l : Launch) (b : Addr) (xs : List Int32) : MetFree l x (headSpec (Jvm.Cond.code x code maxLocals ret :: tables_1) room_1) (lw_P b xs) (fun _ _ _ _ _ => True) lw_Q := by
  refine MetFree.of_bodyS (code := code) (maxLocals := maxLocals) (ret := ret) (by decide) ?_ ?_
  · intro args s m h hn
    obtain ⟨meth, c, h1, h2, h3, h4, h5, h6, -, -⟩ := Cond.code_spec hn (atoms_spec (ws := Jvm.Cond.code x code maxLocals ret :: tables_1) h _ List.mem_cons_self)
    exact ⟨meth, c, h1, h2, h3, h4, h5, h6⟩
  · intro p e s m args below meth c s₁ B hml0 hP _
    obtain ⟨rfl, hx, hbd, hgv⟩ := hP
    obtain ⟨scr, harrAt, hlist, hof, hsmall⟩ := hx
    obtain ⟨hcb, hkn, -, -⟩ := State.arrayAt?_spec harrAt
    have hown : s.vm.findClass R_law = some m.cls := findClass_of_methodNamed B.named
    have hts0 : ∀ c ∈ (Jvm.Cond.code x code maxLocals ret :: tables_1), c.before #[Value.ref b] s = true := atoms_spec (ws := Jvm.Cond.code x code maxLocals ret :: tables_1) B.pre
    have hts : ∀ w ∈ lw_tbl, w.before #[Value.ref b] s = true := k2_hts_sels lw_privs (fun w hw => hts0 w (List.mem_cons_of_mem _ hw)) lw_privs_ok
    have hml : c.maxLocals = 4 := B.maxLocals_eq (hts0 _ List.mem_cons_self)
    have X₀ : Stand p l e room_1 s m #[Value.ref b] below meth c s₁ [] 0 0 := Stand.of_body B
    have hh0 : s₁.heap = s.heap := by rw [B.state]; rfl
    have hsz : scr.slots.size = xs.length := by rw [← Array.length_toList, hlist, List.length_map]
    have hval : ∀ j : Nat, j < xs.length → scr.slots[j]? = some (.int (xs.getD j 0)) := fun j hj => by
      rw [← Array.getElem?_toList, hlist]
      simp [hj]
    have hbl : b < s.heap.size := (Array.getElem?_eq_some_iff.mp hcb).1
    have hX : va_X b xs.length (fun j => xs.getD j 0) s s.heap := ⟨scr, hcb, hof, hkn, hsz, hval⟩
    have K : W p l e room_1 s m #[Value.ref b] below meth c s₁.heap [] 0 0 (lw_Z below #[Value.ref b] s) (entryFrame m ([Value.ref b] : List Value).toArray 4) := by
      rw [hh0]
      exact whole_start l hbd ⟨B.exec, B.bytes, B.returns, hml, hown, hts, hX, hbl, B.notSynchronized, hgv⟩
    obtain ⟨t, a1, o, b1, b2, b3⟩ := K s₁ rfl X₀
    exact ⟨t, o, a1, b1, b2, b3⟩
theorem lw_pre_spec {args : Array Value} {s : State} (h : (Jvm.Cond.and given_1 narrow_1).before args s = true) (hr : rest_1_c.before args s = true) : ∃ (b : Addr) (xs : List Int32), lw_P b xs args s := by
  have hs := flat_of_before _ h
  have hq := flat_of_before _ hr
  have hc : (Cond.count 1).before args s = true := hs _ (by decide +kernel)
  have harr : (Cond.arrayOf (.arg 0) .int).before args s = true := hs _ (by decide +kernel)
  have hle : (Cond.le (.length (.arg 0)) (.int 1536)).before args s = true := hs _ (by decide +kernel)
  have hlen : (Cond.isInt (.length (.arg 0))).before args s = true := hq _ (by decide +kernel)
  have hall : (Cond.all (.arg 0) (.isInt (.elem (.arg 0) (.index 0)))).before args s = true := hq _ (by decide +kernel)
  obtain ⟨b, xs, hb, hx⟩ := State.ints_of_pre rfl harr hlen hall
  have hsm : xs.length < 2 ^ 31 := hx.choose_spec.2.2.2
  have hev : (Term.length (.arg 0)).eval args s none [] s = some (.int xs.length.toInt32) := hx.length_eval hb
  have hv := Cond.le_ints hev (show (Term.int 1536).eval args s none [] s = some (.int 1536) from rfl)
  have hd : xs.length.toInt32 ≤ 1536 := by
    simpa [Cond.before, Cond.holds, hv] using hle
  have hN : xs.length ≤ 1536 := (Int32.ofNat_le_ofNat hsm (by decide)).mp (show Int32.ofNat xs.length ≤ Int32.ofNat 1536 from hd)
  exact ⟨b, xs, Cond.one_arg hc (show args[0]? = some (.ref b) from hb), hx, hN, h⟩
theorem lw_comes (l : Launch) : Comes l x (Jvm.Cond.code x code maxLocals ret :: tables_1) room_1 (fun tb e args s => Calls_1 tb e args s ∧ rest_1 tb e args s ∧ Pre_1 tb e args s)
    (fun _ _ args s o t => lw_Q args s o t) := by
  intro p e ha hc hk s m args below hf hfit hheap happ hpre
  obtain ⟨b, xs, hP⟩ := lw_pre_spec hpre.2.2 hpre.2.1
  obtain ⟨k, o, h1, h2, h3, hQ⟩ := lw_walk l b xs p e ha hc hk s m args below hf ((Spec.applies_iff_loose hf).mp happ).1 hP trivial
  exact ⟨k, o, h1, h2, h3, hQ⟩
theorem lw_frame {s t : State} {o : Outcome} {args : Array Value} (h : Framed s o t [] 12 602) :
    Framed s o t (fieldLocs frame_1_writes args s ++ arrayLocs frame_1_arrays args s ++ staticLocs frame_1_statics s) 12 602 := h
theorem lw_limb (L : Cond) (hL : ∀ (args : Array Value) (s t : State), L.after args s (.returned (some (.int 1))) t = true) :
    ArmFor flags0 classFile x code maxLocals ret World_1 tables_1 room_1 Calls_1 rest_1 Pre_1
      (fun tb e a s o t => postC L tb e a s o t ∧ Framed s o t (fieldLocs frame_1_writes a s ++ arrayLocs frame_1_arrays a s ++ staticLocs frame_1_statics s) 12 602) := by
  intro l _ _ _ p e ha hc hk s m args below hf hfit hheap happ hpre
  obtain ⟨k, o, h1, h2, h3, rfl, hF⟩ := lw_comes l p e ha hc hk s m args below hf hfit hheap happ hpre
  exact ⟨k, _, h1, h2, h3, hL args s _, lw_frame hF⟩
theorem i_vc : Claimed_1_1 ∧ Claimed_1_2 := ⟨lw_limb limb_1_1 (fun args s t => by simp [limb_1_1, Cond.after, Cond.holds, Cond.value]), lw_limb limb_1_2 (fun args s t => Cond.after_iff.mpr (by
  first | (rw [show limb_1_2 = Cond.eq .result (.int 1) from rfl, Cond.eq_ints (x := 1) (y := 1) rfl rfl]; simp; done) | (simp [limb_1_2, Cond.value, Term.eval]; done)))⟩
end
