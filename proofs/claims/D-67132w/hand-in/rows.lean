section
/-! names: PART A of the skeleton (a starting text); the rest printed by gen/gen_names.py -/
-- ===== PART A: goes FIRST, ahead of the names: the tables' words, and 'selects' of the private methods out of them =====
/-- a private method of a class that the tables say can be made, by its rows of tables_1 -/
def lw_okq (q : MethodName × Nat) : Prop := (q.1.cls ≠ "java/lang/invoke/MethodHandle" ∧ q.1.cls ≠ "java/lang/invoke/VarHandle") ∧ Cond.instantiable q.1.cls q.2 ∈ tables_1 ∧ Cond.privateMethod q.1 ∈ tables_1 ∧ Cond.instanceMethod q.1 ∈ tables_1
theorem lw_p0 : lw_okq (⟨"NameTable$Coins", "slot", "(JI)I"⟩, 10) := ⟨⟨by decide +kernel, by decide +kernel⟩, List.mem_of_getElem? (i := 13) (by decide +kernel), List.mem_of_getElem? (i := 72) (by decide +kernel), List.mem_of_getElem? (i := 73) (by decide +kernel)⟩
theorem lw_p1 : lw_okq (⟨"NameTable$Coins", "isIt", "(IJI)Z"⟩, 10) := ⟨⟨by decide +kernel, by decide +kernel⟩, List.mem_of_getElem? (i := 13) (by decide +kernel), List.mem_of_getElem? (i := 80) (by decide +kernel), List.mem_of_getElem? (i := 81) (by decide +kernel)⟩
theorem lw_p2 : lw_okq (⟨"NameTable$Coins", "sort", "()V"⟩, 10) := ⟨⟨by decide +kernel, by decide +kernel⟩, List.mem_of_getElem? (i := 13) (by decide +kernel), List.mem_of_getElem? (i := 110) (by decide +kernel), List.mem_of_getElem? (i := 111) (by decide +kernel)⟩
theorem lw_p3 : lw_okq (⟨"NameTable$Coins", "sink", "(II)V"⟩, 10) := ⟨⟨by decide +kernel, by decide +kernel⟩, List.mem_of_getElem? (i := 13) (by decide +kernel), List.mem_of_getElem? (i := 114) (by decide +kernel), List.mem_of_getElem? (i := 115) (by decide +kernel)⟩
theorem lw_p4 : lw_okq (⟨"NameTable$Coins", "compare", "(II)I"⟩, 10) := ⟨⟨by decide +kernel, by decide +kernel⟩, List.mem_of_getElem? (i := 13) (by decide +kernel), List.mem_of_getElem? (i := 118) (by decide +kernel), List.mem_of_getElem? (i := 119) (by decide +kernel)⟩
theorem lw_p5 : lw_okq (⟨"NameTableModel", "place", "(JI)I"⟩, 4) := ⟨⟨by decide +kernel, by decide +kernel⟩, List.mem_of_getElem? (i := 142) (by decide +kernel), List.mem_of_getElem? (i := 165) (by decide +kernel), List.mem_of_getElem? (i := 166) (by decide +kernel)⟩
theorem lw_p6 : lw_okq (⟨"NameTableModel", "is", "(IJI)Z"⟩, 4) := ⟨⟨by decide +kernel, by decide +kernel⟩, List.mem_of_getElem? (i := 142) (by decide +kernel), List.mem_of_getElem? (i := 169) (by decide +kernel), List.mem_of_getElem? (i := 170) (by decide +kernel)⟩
theorem lw_p7 : lw_okq (⟨"NameTableModel", "go", "(I)I"⟩, 4) := ⟨⟨by decide +kernel, by decide +kernel⟩, List.mem_of_getElem? (i := 142) (by decide +kernel), List.mem_of_getElem? (i := 182) (by decide +kernel), List.mem_of_getElem? (i := 183) (by decide +kernel)⟩
def lw_privs_1 : List (MethodName × Nat) := [(⟨"NameTable$Coins", "slot", "(JI)I"⟩, 10), (⟨"NameTable$Coins", "isIt", "(IJI)Z"⟩, 10), (⟨"NameTable$Coins", "sort", "()V"⟩, 10), (⟨"NameTable$Coins", "sink", "(II)V"⟩, 10), (⟨"NameTable$Coins", "compare", "(II)I"⟩, 10), (⟨"NameTableModel", "place", "(JI)I"⟩, 4), (⟨"NameTableModel", "is", "(IJI)Z"⟩, 4), (⟨"NameTableModel", "go", "(I)I"⟩, 4)]
theorem lw_r1 : ∀ q ∈ lw_privs_1, lw_okq q := List.forall_mem_cons.mpr ⟨lw_p0, List.forall_mem_cons.mpr ⟨lw_p1, List.forall_mem_cons.mpr ⟨lw_p2, List.forall_mem_cons.mpr ⟨lw_p3, List.forall_mem_cons.mpr ⟨lw_p4, List.forall_mem_cons.mpr ⟨lw_p5, List.forall_mem_cons.mpr ⟨lw_p6, List.forall_mem_cons.mpr ⟨lw_p7, fun _ h => absurd h List.not_mem_nil⟩⟩⟩⟩⟩⟩⟩⟩
def lw_privs : List (MethodName × Nat) := lw_privs_1
def lw_tbl : List Cond := k2_sels lw_privs ++ tables_1
theorem lw_privs_ok : ∀ q ∈ lw_privs, lw_okq q := lw_r1
def R_NT : String := "NameTable"
def F_NT : u_T := fun k => match k with
  | _ => ("NameTable", "coins", "LNameTable$Coins;", true)
def t_NT : Nat → FieldType := fun k => match k with
  | _ => .object "NameTable$Coins"
def R_CO : String := "NameTable$Coins"
def F_CO : u_T := fun k => match k with
  | 0 => ("NameTable$Coins", "id", "[J", true)
  | 1 => ("NameTable$Coins", "index", "[I", true)
  | 2 => ("NameTable$Coins", "worth", "[I", true)
  | 3 => ("NameTable$Coins", "free", "[I", true)
  | 4 => ("NameTable$Coins", "freeMany", "I", false)
  | 5 => ("NameTable$Coins", "table", "[I", true)
  | 6 => ("NameTable$Coins", "many", "I", false)
  | 7 => ("NameTable$Coins", "value", "J", false)
  | 8 => ("NameTable$Coins", "row", "[I", true)
  | _ => ("NameTable$Coins", "sorted", "Z", false)
def t_CO : Nat → FieldType := fun k => match k with
  | 0 => .array .long
  | 1 => .array .int
  | 2 => .array .int
  | 3 => .array .int
  | 4 => .int
  | 5 => .array .int
  | 6 => .int
  | 7 => .long
  | 8 => .array .int
  | _ => .boolean
def R_MO : String := "NameTableModel"
def F_MO : u_T := fun k => match k with
  | 0 => ("NameTableModel", "id", "[J", true)
  | 1 => ("NameTableModel", "index", "[I", true)
  | 2 => ("NameTableModel", "value", "[I", true)
  | _ => ("NameTableModel", "count", "I", false)
def t_MO : Nat → FieldType := fun k => match k with
  | 0 => .array .long
  | 1 => .array .int
  | 2 => .array .int
  | _ => .int
def R_LW : String := "NameTableLaw"
abbrev classes : List vw_C := [(R_NT, F_NT, 1), (R_CO, F_CO, 10), (R_MO, F_MO, 4)]
theorem n_NT : ∀ a, a < 1 → ∀ b, b < 1 → a ≠ b → (F_NT a).2.1 ≠ (F_NT b).2.1 := by decide +kernel
theorem t_NT_ok : ∀ k, k < 1 → parseFieldDescriptor (F_NT k).2.2.1 = some (t_NT k) := by decide +kernel
theorem n_CO : ∀ a, a < 10 → ∀ b, b < 10 → a ≠ b → (F_CO a).2.1 ≠ (F_CO b).2.1 := by decide +kernel
theorem t_CO_ok : ∀ k, k < 10 → parseFieldDescriptor (F_CO k).2.2.1 = some (t_CO k) := by decide +kernel
theorem n_MO : ∀ a, a < 4 → ∀ b, b < 4 → a ≠ b → (F_MO a).2.1 ≠ (F_MO b).2.1 := by decide +kernel
theorem t_MO_ok : ∀ k, k < 4 → parseFieldDescriptor (F_MO k).2.2.1 = some (t_MO k) := by decide +kernel
def y_NT_init : MethodName := ⟨"NameTable", "<init>", "()V"⟩
abbrev b_NT_init : ByteArray := prog_1_method_2_code
def y_CO_init : MethodName := ⟨"NameTable$Coins", "<init>", "()V"⟩
abbrev b_CO_init : ByteArray := prog_2_method_1_code
def y_NT_add : MethodName := ⟨"NameTable", "add", "(JII)I"⟩
abbrev b_NT_add : ByteArray := prog_1_method_3_code
def y_NT_in : MethodName := ⟨"NameTable", "in", "(III)Z"⟩
abbrev b_NT_in : ByteArray := prog_1_method_1_code
def y_CO_get : MethodName := ⟨"NameTable$Coins", "get", "(JI)I"⟩
abbrev b_CO_get : ByteArray := prog_2_method_5_code
def y_CO_slot : MethodName := ⟨"NameTable$Coins", "slot", "(JI)I"⟩
abbrev b_CO_slot : ByteArray := prog_2_method_4_code
def y_CO_place : MethodName := ⟨"NameTable$Coins", "place", "(JI)I"⟩
abbrev b_CO_place : ByteArray := prog_2_method_2_code
def y_CO_isIt : MethodName := ⟨"NameTable$Coins", "isIt", "(IJI)Z"⟩
abbrev b_CO_isIt : ByteArray := prog_2_method_3_code
def y_CO_add : MethodName := ⟨"NameTable$Coins", "add", "(JII)V"⟩
abbrev b_CO_add : ByteArray := prog_2_method_6_code
def y_NT_some : MethodName := ⟨"NameTable", "some", "(JJII)I"⟩
abbrev b_NT_some : ByteArray := prog_1_method_4_code
def y_NT_remove : MethodName := ⟨"NameTable", "remove", "(JI)I"⟩
abbrev b_NT_remove : ByteArray := prog_1_method_5_code
def y_CO_remove : MethodName := ⟨"NameTable$Coins", "remove", "(I)V"⟩
abbrev b_CO_remove : ByteArray := prog_2_method_7_code
def y_NT_take : MethodName := ⟨"NameTable", "take", "(I)I"⟩
abbrev b_NT_take : ByteArray := prog_1_method_6_code
def y_CO_nth : MethodName := ⟨"NameTable$Coins", "nth", "(I)I"⟩
abbrev b_CO_nth : ByteArray := prog_2_method_11_code
def y_CO_sort : MethodName := ⟨"NameTable$Coins", "sort", "()V"⟩
abbrev b_CO_sort : ByteArray := prog_2_method_10_code
def y_CO_sink : MethodName := ⟨"NameTable$Coins", "sink", "(II)V"⟩
abbrev b_CO_sink : ByteArray := prog_2_method_9_code
def y_CO_compare : MethodName := ⟨"NameTable$Coins", "compare", "(II)I"⟩
abbrev b_CO_compare : ByteArray := prog_2_method_8_code
def y_NT_get : MethodName := ⟨"NameTable", "get", "(JI)I"⟩
abbrev b_NT_get : ByteArray := prog_1_method_7_code
def y_NT_name : MethodName := ⟨"NameTable", "name", "(I)J"⟩
abbrev b_NT_name : ByteArray := prog_1_method_8_code
def y_NT_index : MethodName := ⟨"NameTable", "index", "(I)I"⟩
abbrev b_NT_index : ByteArray := prog_1_method_9_code
def y_NT_many : MethodName := ⟨"NameTable", "many", "()I"⟩
abbrev b_NT_many : ByteArray := prog_1_method_10_code
def y_NT_value : MethodName := ⟨"NameTable", "value", "()J"⟩
abbrev b_NT_value : ByteArray := prog_1_method_11_code
def y_MO_init : MethodName := ⟨"NameTableModel", "<init>", "()V"⟩
abbrev b_MO_init : ByteArray := prog_4_method_1_code
def y_MO_add : MethodName := ⟨"NameTableModel", "add", "(JII)I"⟩
abbrev b_MO_add : ByteArray := prog_4_method_4_code
def y_MO_place : MethodName := ⟨"NameTableModel", "place", "(JI)I"⟩
abbrev b_MO_place : ByteArray := prog_4_method_2_code
def y_MO_is : MethodName := ⟨"NameTableModel", "is", "(IJI)Z"⟩
abbrev b_MO_is : ByteArray := prog_4_method_3_code
def y_MO_some : MethodName := ⟨"NameTableModel", "some", "(JJII)I"⟩
abbrev b_MO_some : ByteArray := prog_4_method_5_code
def y_MO_remove : MethodName := ⟨"NameTableModel", "remove", "(JI)I"⟩
abbrev b_MO_remove : ByteArray := prog_4_method_7_code
def y_MO_go : MethodName := ⟨"NameTableModel", "go", "(I)I"⟩
abbrev b_MO_go : ByteArray := prog_4_method_6_code
def y_MO_take : MethodName := ⟨"NameTableModel", "take", "(I)I"⟩
abbrev b_MO_take : ByteArray := prog_4_method_8_code
def y_MO_get : MethodName := ⟨"NameTableModel", "get", "(JI)I"⟩
abbrev b_MO_get : ByteArray := prog_4_method_9_code
def y_MO_name : MethodName := ⟨"NameTableModel", "name", "(I)J"⟩
abbrev b_MO_name : ByteArray := prog_4_method_10_code
def y_MO_index : MethodName := ⟨"NameTableModel", "index", "(I)I"⟩
abbrev b_MO_index : ByteArray := prog_4_method_11_code
def y_MO_many : MethodName := ⟨"NameTableModel", "many", "()I"⟩
abbrev b_MO_many : ByteArray := prog_4_method_12_code
def y_MO_value : MethodName := ⟨"NameTableModel", "value", "()J"⟩
abbrev b_MO_value : ByteArray := prog_4_method_13_code
/-- the places of lw_tbl whose words can be handed on to a callee -/
def tg_idx : List Nat := (List.range 218).filter (fun i => !(i == 27) && !(i == 29) && !(i == 31) && !(i == 80) && !(i == 88) && !(i == 116) && !(i == 118) && !(i == 122) && !(i == 126) && !(i == 173) && !(i == 177) && !(i == 190))
def tg : List Cond := tg_idx.filterMap (fun i => lw_tbl[i]?)
theorem tg_of {w : Cond} (i : Nat) (hi : i ∈ tg_idx) (h : lw_tbl[i]? = some w) : w ∈ tg := List.mem_filterMap.mpr ⟨i, hi, h⟩
theorem tg_in {w : Cond} (h : w ∈ tg) : w ∈ lw_tbl := by
  obtain ⟨i, -, hi⟩ := List.mem_filterMap.mp h
  exact List.mem_of_getElem? hi
theorem tg_gd0 : tg_idx.all (fun i => match lw_tbl[i]? with | some w => goodWord w | none => true) = true := by decide +kernel
theorem tg_gd {w : Cond} (h : w ∈ tg) : (w.onTables && w.keeps) = true ∨ ∃ ty, w = .arrayClass ty := by
  obtain ⟨i, hi, he⟩ := List.mem_filterMap.mp h
  have h1 := List.all_eq_true.mp tg_gd0 i hi
  rw [he] at h1
  exact good_of_word h1
/-- a callee's words are among any caller's -/
theorem gd {y : MethodName} {b : ByteArray} {n : Nat} {r : Option FieldType} (h : Cond.code y b n r ∈ tg) : GoodIn tg (Cond.code y b n r :: tg) := by
  intro w hw
  have hw' : w ∈ tg := by
    rcases List.mem_cons.mp hw with rfl | h1
    · exact h
    · exact h1
  exact ⟨hw', tg_gd hw'⟩
theorem s_CO_slot : Cond.selects "NameTable$Coins" y_CO_slot y_CO_slot ∈ tg := tg_of 0 (by decide +kernel) rfl
theorem s_CO_isIt : Cond.selects "NameTable$Coins" y_CO_isIt y_CO_isIt ∈ tg := tg_of 1 (by decide +kernel) rfl
theorem s_CO_sort : Cond.selects "NameTable$Coins" y_CO_sort y_CO_sort ∈ tg := tg_of 2 (by decide +kernel) rfl
theorem s_CO_sink : Cond.selects "NameTable$Coins" y_CO_sink y_CO_sink ∈ tg := tg_of 3 (by decide +kernel) rfl
theorem s_CO_compare : Cond.selects "NameTable$Coins" y_CO_compare y_CO_compare ∈ tg := tg_of 4 (by decide +kernel) rfl
theorem s_MO_place : Cond.selects "NameTableModel" y_MO_place y_MO_place ∈ tg := tg_of 5 (by decide +kernel) rfl
theorem s_MO_is : Cond.selects "NameTableModel" y_MO_is y_MO_is ∈ tg := tg_of 6 (by decide +kernel) rfl
theorem s_MO_go : Cond.selects "NameTableModel" y_MO_go y_MO_go ∈ tg := tg_of 7 (by decide +kernel) rfl
theorem m_0 : Cond.initialized "NameTableLaw" ∈ tg := tg_of 8 (by decide +kernel) rfl
theorem m_1 : Cond.initialized "NameTable" ∈ tg := tg_of 9 (by decide +kernel) rfl
theorem m_2 : Cond.initialized "NameTable$Coins" ∈ tg := tg_of 10 (by decide +kernel) rfl
theorem m_3 : Cond.initialized "NameTableModel" ∈ tg := tg_of 11 (by decide +kernel) rfl
theorem m_4 : Cond.classLink "NameTableLaw" 7 "NameTable" ∈ tg := tg_of 12 (by decide +kernel) rfl
theorem m_5 : Cond.instantiable "NameTable" 1 ∈ tg := tg_of 13 (by decide +kernel) rfl
theorem m_6 : Cond.methodLink "NameTableLaw" 9 y_NT_init ∈ tg := tg_of 14 (by decide +kernel) rfl
theorem m_7 : Cond.instanceMethod y_NT_init ∈ tg := tg_of 15 (by decide +kernel) rfl
theorem m_8 : Cond.code y_NT_init b_NT_init 1 (none) ∈ tg := tg_of 16 (by decide +kernel) rfl
theorem m_9 : Cond.methodLink "NameTable" 1 Lib.objectInit ∈ tg := tg_of 17 (by decide +kernel) rfl
theorem m_10 : Cond.instanceMethod Lib.objectInit ∈ tg := tg_of 18 (by decide +kernel) rfl
theorem m_11 : Cond.code Lib.objectInit ⟨#[0xb1]⟩ 1 none ∈ tg := tg_of 19 (by decide +kernel) rfl
theorem m_12 : Cond.classLink "NameTable" 7 "NameTable$Coins" ∈ tg := tg_of 20 (by decide +kernel) rfl
theorem m_13 : Cond.instantiable "NameTable$Coins" 10 ∈ tg := tg_of 21 (by decide +kernel) rfl
theorem m_14 : Cond.methodLink "NameTable" 9 y_CO_init ∈ tg := tg_of 22 (by decide +kernel) rfl
theorem m_15 : Cond.instanceMethod y_CO_init ∈ tg := tg_of 23 (by decide +kernel) rfl
theorem m_16 : Cond.code y_CO_init b_CO_init 2 (none) ∈ tg := tg_of 24 (by decide +kernel) rfl
theorem m_17 : Cond.methodLink "NameTable$Coins" 3 Lib.objectInit ∈ tg := tg_of 25 (by decide +kernel) rfl
theorem m_18 : Cond.fieldLink "NameTable$Coins" 9 "NameTable$Coins" "id" "[J" ∈ tg := tg_of 26 (by decide +kernel) rfl
theorem m_20 : Cond.fieldLink "NameTable$Coins" 15 "NameTable$Coins" "index" "[I" ∈ tg := tg_of 28 (by decide +kernel) rfl
theorem m_22 : Cond.fieldLink "NameTable$Coins" 19 "NameTable$Coins" "worth" "[I" ∈ tg := tg_of 30 (by decide +kernel) rfl
theorem m_24 : Cond.fieldLink "NameTable$Coins" 22 "NameTable$Coins" "free" "[I" ∈ tg := tg_of 32 (by decide +kernel) rfl
theorem m_25 : Cond.fieldLink "NameTable$Coins" 31 "NameTable$Coins" "freeMany" "I" ∈ tg := tg_of 33 (by decide +kernel) rfl
theorem m_26 : Cond.fieldLink "NameTable$Coins" 25 "NameTable$Coins" "table" "[I" ∈ tg := tg_of 34 (by decide +kernel) rfl
theorem m_27 : Cond.fieldLink "NameTable" 24 "NameTable$Coins" "many" "I" ∈ tg := tg_of 35 (by decide +kernel) rfl
theorem m_28 : Cond.fieldLink "NameTable$Coins" 47 "NameTable$Coins" "many" "I" ∈ tg := tg_of 36 (by decide +kernel) rfl
theorem m_29 : Cond.fieldLink "NameTable$Coins" 50 "NameTable$Coins" "value" "J" ∈ tg := tg_of 37 (by decide +kernel) rfl
theorem m_30 : Cond.fieldLink "NameTable" 54 "NameTable$Coins" "value" "J" ∈ tg := tg_of 38 (by decide +kernel) rfl
theorem m_31 : Cond.fieldLink "NameTable$Coins" 28 "NameTable$Coins" "row" "[I" ∈ tg := tg_of 39 (by decide +kernel) rfl
theorem m_32 : Cond.fieldLink "NameTable$Coins" 54 "NameTable$Coins" "sorted" "Z" ∈ tg := tg_of 40 (by decide +kernel) rfl
theorem m_54 : Cond.arrayClass FieldType.long ∈ tg := tg_of 62 (by decide +kernel) rfl
theorem m_55 : Cond.arrayClass FieldType.int ∈ tg := tg_of 63 (by decide +kernel) rfl
theorem m_56 : Cond.fieldLink "NameTable" 10 "NameTable" "coins" "LNameTable$Coins;" ∈ tg := tg_of 64 (by decide +kernel) rfl
theorem m_60 : Cond.methodLink "NameTableLaw" 15 y_NT_add ∈ tg := tg_of 68 (by decide +kernel) rfl
theorem m_61 : Cond.instanceMethod y_NT_add ∈ tg := tg_of 69 (by decide +kernel) rfl
theorem m_62 : Cond.selects "NameTable" y_NT_add y_NT_add ∈ tg := tg_of 70 (by decide +kernel) rfl
theorem m_63 : Cond.code y_NT_add b_NT_add 5 (some .int) ∈ tg := tg_of 71 (by decide +kernel) rfl
theorem m_64 : Cond.methodLink "NameTable" 16 y_NT_in ∈ tg := tg_of 72 (by decide +kernel) rfl
theorem m_65 : Cond.static y_NT_in ∈ tg := tg_of 73 (by decide +kernel) rfl
theorem m_66 : Cond.code y_NT_in b_NT_in 3 (some .boolean) ∈ tg := tg_of 74 (by decide +kernel) rfl
theorem m_67 : Cond.methodLink "NameTable" 20 y_CO_get ∈ tg := tg_of 75 (by decide +kernel) rfl
theorem m_68 : Cond.instanceMethod y_CO_get ∈ tg := tg_of 76 (by decide +kernel) rfl
theorem m_69 : Cond.selects "NameTable$Coins" y_CO_get y_CO_get ∈ tg := tg_of 77 (by decide +kernel) rfl
theorem m_70 : Cond.code y_CO_get b_CO_get 4 (some .int) ∈ tg := tg_of 78 (by decide +kernel) rfl
theorem m_71 : Cond.methodLink "NameTable$Coins" 44 y_CO_slot ∈ tg := tg_of 79 (by decide +kernel) rfl
theorem m_73 : Cond.instanceMethod y_CO_slot ∈ tg := tg_of 81 (by decide +kernel) rfl
theorem m_74 : Cond.code y_CO_slot b_CO_slot 5 (some .int) ∈ tg := tg_of 82 (by decide +kernel) rfl
theorem m_75 : Cond.methodLink "NameTable$Coins" 36 y_CO_place ∈ tg := tg_of 83 (by decide +kernel) rfl
theorem m_76 : Cond.static y_CO_place ∈ tg := tg_of 84 (by decide +kernel) rfl
theorem m_77 : Cond.code y_CO_place b_CO_place 4 (some .int) ∈ tg := tg_of 85 (by decide +kernel) rfl
theorem m_78 : Cond.constant "NameTable$Coins" 35 (40503 : Int32) ∈ tg := tg_of 86 (by decide +kernel) rfl
theorem m_79 : Cond.methodLink "NameTable$Coins" 40 y_CO_isIt ∈ tg := tg_of 87 (by decide +kernel) rfl
theorem m_81 : Cond.instanceMethod y_CO_isIt ∈ tg := tg_of 89 (by decide +kernel) rfl
theorem m_82 : Cond.code y_CO_isIt b_CO_isIt 5 (some .boolean) ∈ tg := tg_of 90 (by decide +kernel) rfl
theorem m_83 : Cond.methodLink "NameTable" 28 y_CO_add ∈ tg := tg_of 91 (by decide +kernel) rfl
theorem m_84 : Cond.instanceMethod y_CO_add ∈ tg := tg_of 92 (by decide +kernel) rfl
theorem m_85 : Cond.selects "NameTable$Coins" y_CO_add y_CO_add ∈ tg := tg_of 93 (by decide +kernel) rfl
theorem m_86 : Cond.code y_CO_add b_CO_add 6 (none) ∈ tg := tg_of 94 (by decide +kernel) rfl
theorem m_87 : Cond.methodLink "NameTableLaw" 20 y_NT_some ∈ tg := tg_of 95 (by decide +kernel) rfl
theorem m_88 : Cond.instanceMethod y_NT_some ∈ tg := tg_of 96 (by decide +kernel) rfl
theorem m_89 : Cond.selects "NameTable" y_NT_some y_NT_some ∈ tg := tg_of 97 (by decide +kernel) rfl
theorem m_90 : Cond.code y_NT_some b_NT_some 9 (some .int) ∈ tg := tg_of 98 (by decide +kernel) rfl
theorem m_91 : Cond.methodLink "NameTable" 32 y_NT_add ∈ tg := tg_of 99 (by decide +kernel) rfl
theorem m_92 : Cond.methodLink "NameTableLaw" 25 y_NT_remove ∈ tg := tg_of 100 (by decide +kernel) rfl
theorem m_93 : Cond.instanceMethod y_NT_remove ∈ tg := tg_of 101 (by decide +kernel) rfl
theorem m_94 : Cond.selects "NameTable" y_NT_remove y_NT_remove ∈ tg := tg_of 102 (by decide +kernel) rfl
theorem m_95 : Cond.code y_NT_remove b_NT_remove 5 (some .int) ∈ tg := tg_of 103 (by decide +kernel) rfl
theorem m_96 : Cond.methodLink "NameTable" 35 y_CO_remove ∈ tg := tg_of 104 (by decide +kernel) rfl
theorem m_97 : Cond.instanceMethod y_CO_remove ∈ tg := tg_of 105 (by decide +kernel) rfl
theorem m_98 : Cond.selects "NameTable$Coins" y_CO_remove y_CO_remove ∈ tg := tg_of 106 (by decide +kernel) rfl
theorem m_99 : Cond.code y_CO_remove b_CO_remove 6 (none) ∈ tg := tg_of 107 (by decide +kernel) rfl
theorem m_100 : Cond.methodLink "NameTableLaw" 30 y_NT_take ∈ tg := tg_of 108 (by decide +kernel) rfl
theorem m_101 : Cond.instanceMethod y_NT_take ∈ tg := tg_of 109 (by decide +kernel) rfl
theorem m_102 : Cond.selects "NameTable" y_NT_take y_NT_take ∈ tg := tg_of 110 (by decide +kernel) rfl
theorem m_103 : Cond.code y_NT_take b_NT_take 3 (some .int) ∈ tg := tg_of 111 (by decide +kernel) rfl
theorem m_104 : Cond.methodLink "NameTable" 43 y_CO_nth ∈ tg := tg_of 112 (by decide +kernel) rfl
theorem m_105 : Cond.instanceMethod y_CO_nth ∈ tg := tg_of 113 (by decide +kernel) rfl
theorem m_106 : Cond.selects "NameTable$Coins" y_CO_nth y_CO_nth ∈ tg := tg_of 114 (by decide +kernel) rfl
theorem m_107 : Cond.code y_CO_nth b_CO_nth 2 (some .int) ∈ tg := tg_of 115 (by decide +kernel) rfl
theorem m_109 : Cond.methodLink "NameTable$Coins" 70 y_CO_sort ∈ tg := tg_of 117 (by decide +kernel) rfl
theorem m_111 : Cond.instanceMethod y_CO_sort ∈ tg := tg_of 119 (by decide +kernel) rfl
theorem m_112 : Cond.code y_CO_sort b_CO_sort 4 (none) ∈ tg := tg_of 120 (by decide +kernel) rfl
theorem m_113 : Cond.methodLink "NameTable$Coins" 62 y_CO_sink ∈ tg := tg_of 121 (by decide +kernel) rfl
theorem m_115 : Cond.instanceMethod y_CO_sink ∈ tg := tg_of 123 (by decide +kernel) rfl
theorem m_116 : Cond.code y_CO_sink b_CO_sink 6 (none) ∈ tg := tg_of 124 (by decide +kernel) rfl
theorem m_117 : Cond.methodLink "NameTable$Coins" 58 y_CO_compare ∈ tg := tg_of 125 (by decide +kernel) rfl
theorem m_119 : Cond.instanceMethod y_CO_compare ∈ tg := tg_of 127 (by decide +kernel) rfl
theorem m_120 : Cond.code y_CO_compare b_CO_compare 3 (some .int) ∈ tg := tg_of 128 (by decide +kernel) rfl
theorem m_121 : Cond.methodLink "NameTableLaw" 35 y_NT_get ∈ tg := tg_of 129 (by decide +kernel) rfl
theorem m_122 : Cond.instanceMethod y_NT_get ∈ tg := tg_of 130 (by decide +kernel) rfl
theorem m_123 : Cond.selects "NameTable" y_NT_get y_NT_get ∈ tg := tg_of 131 (by decide +kernel) rfl
theorem m_124 : Cond.code y_NT_get b_NT_get 5 (some .int) ∈ tg := tg_of 132 (by decide +kernel) rfl
theorem m_125 : Cond.methodLink "NameTableLaw" 39 y_NT_name ∈ tg := tg_of 133 (by decide +kernel) rfl
theorem m_126 : Cond.instanceMethod y_NT_name ∈ tg := tg_of 134 (by decide +kernel) rfl
theorem m_127 : Cond.selects "NameTable" y_NT_name y_NT_name ∈ tg := tg_of 135 (by decide +kernel) rfl
theorem m_128 : Cond.code y_NT_name b_NT_name 3 (some .long) ∈ tg := tg_of 136 (by decide +kernel) rfl
theorem m_129 : Cond.methodLink "NameTableLaw" 44 y_NT_index ∈ tg := tg_of 137 (by decide +kernel) rfl
theorem m_130 : Cond.instanceMethod y_NT_index ∈ tg := tg_of 138 (by decide +kernel) rfl
theorem m_131 : Cond.selects "NameTable" y_NT_index y_NT_index ∈ tg := tg_of 139 (by decide +kernel) rfl
theorem m_132 : Cond.code y_NT_index b_NT_index 3 (some .int) ∈ tg := tg_of 140 (by decide +kernel) rfl
theorem m_133 : Cond.methodLink "NameTableLaw" 48 y_NT_many ∈ tg := tg_of 141 (by decide +kernel) rfl
theorem m_134 : Cond.instanceMethod y_NT_many ∈ tg := tg_of 142 (by decide +kernel) rfl
theorem m_135 : Cond.selects "NameTable" y_NT_many y_NT_many ∈ tg := tg_of 143 (by decide +kernel) rfl
theorem m_136 : Cond.code y_NT_many b_NT_many 1 (some .int) ∈ tg := tg_of 144 (by decide +kernel) rfl
theorem m_137 : Cond.methodLink "NameTableLaw" 53 y_NT_value ∈ tg := tg_of 145 (by decide +kernel) rfl
theorem m_138 : Cond.instanceMethod y_NT_value ∈ tg := tg_of 146 (by decide +kernel) rfl
theorem m_139 : Cond.selects "NameTable" y_NT_value y_NT_value ∈ tg := tg_of 147 (by decide +kernel) rfl
theorem m_140 : Cond.code y_NT_value b_NT_value 1 (some .long) ∈ tg := tg_of 148 (by decide +kernel) rfl
theorem m_141 : Cond.classLink "NameTableLaw" 10 "NameTableModel" ∈ tg := tg_of 149 (by decide +kernel) rfl
theorem m_142 : Cond.instantiable "NameTableModel" 4 ∈ tg := tg_of 150 (by decide +kernel) rfl
theorem m_143 : Cond.methodLink "NameTableLaw" 12 y_MO_init ∈ tg := tg_of 151 (by decide +kernel) rfl
theorem m_144 : Cond.instanceMethod y_MO_init ∈ tg := tg_of 152 (by decide +kernel) rfl
theorem m_145 : Cond.code y_MO_init b_MO_init 1 (none) ∈ tg := tg_of 153 (by decide +kernel) rfl
theorem m_146 : Cond.methodLink "NameTableModel" 1 Lib.objectInit ∈ tg := tg_of 154 (by decide +kernel) rfl
theorem m_147 : Cond.fieldLink "NameTableModel" 9 "NameTableModel" "id" "[J" ∈ tg := tg_of 155 (by decide +kernel) rfl
theorem m_148 : Cond.fieldLink "NameTableModel" 13 "NameTableModel" "index" "[I" ∈ tg := tg_of 156 (by decide +kernel) rfl
theorem m_149 : Cond.fieldLink "NameTableModel" 17 "NameTableModel" "value" "[I" ∈ tg := tg_of 157 (by decide +kernel) rfl
theorem m_150 : Cond.fieldLink "NameTableModel" 20 "NameTableModel" "count" "I" ∈ tg := tg_of 158 (by decide +kernel) rfl
theorem m_160 : Cond.methodLink "NameTableLaw" 19 y_MO_add ∈ tg := tg_of 168 (by decide +kernel) rfl
theorem m_161 : Cond.instanceMethod y_MO_add ∈ tg := tg_of 169 (by decide +kernel) rfl
theorem m_162 : Cond.selects "NameTableModel" y_MO_add y_MO_add ∈ tg := tg_of 170 (by decide +kernel) rfl
theorem m_163 : Cond.code y_MO_add b_MO_add 7 (some .int) ∈ tg := tg_of 171 (by decide +kernel) rfl
theorem m_164 : Cond.methodLink "NameTableModel" 24 y_MO_place ∈ tg := tg_of 172 (by decide +kernel) rfl
theorem m_166 : Cond.instanceMethod y_MO_place ∈ tg := tg_of 174 (by decide +kernel) rfl
theorem m_167 : Cond.code y_MO_place b_MO_place 5 (some .int) ∈ tg := tg_of 175 (by decide +kernel) rfl
theorem m_168 : Cond.methodLink "NameTableModel" 28 y_MO_is ∈ tg := tg_of 176 (by decide +kernel) rfl
theorem m_170 : Cond.instanceMethod y_MO_is ∈ tg := tg_of 178 (by decide +kernel) rfl
theorem m_171 : Cond.code y_MO_is b_MO_is 5 (some .boolean) ∈ tg := tg_of 179 (by decide +kernel) rfl
theorem m_172 : Cond.methodLink "NameTableLaw" 24 y_MO_some ∈ tg := tg_of 180 (by decide +kernel) rfl
theorem m_173 : Cond.instanceMethod y_MO_some ∈ tg := tg_of 181 (by decide +kernel) rfl
theorem m_174 : Cond.selects "NameTableModel" y_MO_some y_MO_some ∈ tg := tg_of 182 (by decide +kernel) rfl
theorem m_175 : Cond.code y_MO_some b_MO_some 9 (some .int) ∈ tg := tg_of 183 (by decide +kernel) rfl
theorem m_176 : Cond.methodLink "NameTableModel" 32 y_MO_add ∈ tg := tg_of 184 (by decide +kernel) rfl
theorem m_177 : Cond.methodLink "NameTableLaw" 29 y_MO_remove ∈ tg := tg_of 185 (by decide +kernel) rfl
theorem m_178 : Cond.instanceMethod y_MO_remove ∈ tg := tg_of 186 (by decide +kernel) rfl
theorem m_179 : Cond.selects "NameTableModel" y_MO_remove y_MO_remove ∈ tg := tg_of 187 (by decide +kernel) rfl
theorem m_180 : Cond.code y_MO_remove b_MO_remove 5 (some .int) ∈ tg := tg_of 188 (by decide +kernel) rfl
theorem m_181 : Cond.methodLink "NameTableModel" 36 y_MO_go ∈ tg := tg_of 189 (by decide +kernel) rfl
theorem m_183 : Cond.instanceMethod y_MO_go ∈ tg := tg_of 191 (by decide +kernel) rfl
theorem m_184 : Cond.code y_MO_go b_MO_go 4 (some .int) ∈ tg := tg_of 192 (by decide +kernel) rfl
theorem m_185 : Cond.methodLink "NameTableLaw" 34 y_MO_take ∈ tg := tg_of 193 (by decide +kernel) rfl
theorem m_186 : Cond.instanceMethod y_MO_take ∈ tg := tg_of 194 (by decide +kernel) rfl
theorem m_187 : Cond.selects "NameTableModel" y_MO_take y_MO_take ∈ tg := tg_of 195 (by decide +kernel) rfl
theorem m_188 : Cond.code y_MO_take b_MO_take 2 (some .int) ∈ tg := tg_of 196 (by decide +kernel) rfl
theorem m_189 : Cond.methodLink "NameTableLaw" 38 y_MO_get ∈ tg := tg_of 197 (by decide +kernel) rfl
theorem m_190 : Cond.instanceMethod y_MO_get ∈ tg := tg_of 198 (by decide +kernel) rfl
theorem m_191 : Cond.selects "NameTableModel" y_MO_get y_MO_get ∈ tg := tg_of 199 (by decide +kernel) rfl
theorem m_192 : Cond.code y_MO_get b_MO_get 5 (some .int) ∈ tg := tg_of 200 (by decide +kernel) rfl
theorem m_193 : Cond.methodLink "NameTableLaw" 43 y_MO_name ∈ tg := tg_of 201 (by decide +kernel) rfl
theorem m_194 : Cond.instanceMethod y_MO_name ∈ tg := tg_of 202 (by decide +kernel) rfl
theorem m_195 : Cond.selects "NameTableModel" y_MO_name y_MO_name ∈ tg := tg_of 203 (by decide +kernel) rfl
theorem m_196 : Cond.code y_MO_name b_MO_name 2 (some .long) ∈ tg := tg_of 204 (by decide +kernel) rfl
theorem m_197 : Cond.methodLink "NameTableLaw" 47 y_MO_index ∈ tg := tg_of 205 (by decide +kernel) rfl
theorem m_198 : Cond.instanceMethod y_MO_index ∈ tg := tg_of 206 (by decide +kernel) rfl
theorem m_199 : Cond.selects "NameTableModel" y_MO_index y_MO_index ∈ tg := tg_of 207 (by decide +kernel) rfl
theorem m_200 : Cond.code y_MO_index b_MO_index 2 (some .int) ∈ tg := tg_of 208 (by decide +kernel) rfl
theorem m_201 : Cond.methodLink "NameTableLaw" 52 y_MO_many ∈ tg := tg_of 209 (by decide +kernel) rfl
theorem m_202 : Cond.instanceMethod y_MO_many ∈ tg := tg_of 210 (by decide +kernel) rfl
theorem m_203 : Cond.selects "NameTableModel" y_MO_many y_MO_many ∈ tg := tg_of 211 (by decide +kernel) rfl
theorem m_204 : Cond.code y_MO_many b_MO_many 1 (some .int) ∈ tg := tg_of 212 (by decide +kernel) rfl
theorem m_205 : Cond.methodLink "NameTableLaw" 57 y_MO_value ∈ tg := tg_of 213 (by decide +kernel) rfl
theorem m_206 : Cond.instanceMethod y_MO_value ∈ tg := tg_of 214 (by decide +kernel) rfl
theorem m_207 : Cond.selects "NameTableModel" y_MO_value y_MO_value ∈ tg := tg_of 215 (by decide +kernel) rfl
theorem m_208 : Cond.code y_MO_value b_MO_value 4 (some .long) ∈ tg := tg_of 216 (by decide +kernel) rfl
theorem m_209 : Cond.constantLong "NameTableLaw" 13 (4294967295 : Int64) ∈ tg := tg_of 217 (by decide +kernel) rfl
theorem in_NT : ∀ w ∈ u_ws R_NT F_NT 1, w ∈ tg := by decide +kernel
theorem in_CO : ∀ w ∈ u_ws R_CO F_CO 10, w ∈ tg := by decide +kernel
theorem in_MO : ∀ w ∈ u_ws R_MO F_MO 4, w ∈ tg := by decide +kernel
abbrev nw_19 : Cond := Cond.fieldLinkNest "NameTable" 47 "NameTable$Coins" "id" "[J" "NameTable"
theorem nw_19_in : nw_19 ∈ lw_tbl := List.mem_of_getElem? (i := 27) rfl
abbrev nw_21 : Cond := Cond.fieldLinkNest "NameTable" 51 "NameTable$Coins" "index" "[I" "NameTable"
theorem nw_21_in : nw_21 ∈ lw_tbl := List.mem_of_getElem? (i := 29) rfl
abbrev nw_23 : Cond := Cond.fieldLinkNest "NameTable" 39 "NameTable$Coins" "worth" "[I" "NameTable"
theorem nw_23_in : nw_23 ∈ lw_tbl := List.mem_of_getElem? (i := 31) rfl
abbrev nw_108 : Cond := Cond.methodLinkNest "NameTable$Coins" 66 y_NT_in "NameTable"
theorem nw_108_in : nw_108 ∈ lw_tbl := List.mem_of_getElem? (i := 116) rfl
end
section
/-! decode rows, printed by gen/gen_names.py -/
theorem d_NT_in_0 : decode b_NT_in 0 = .ok (.iload_n 0, 1) := by decide +kernel
theorem d_NT_in_1 : decode b_NT_in 1 = .ok (.iload_n 1, 1) := by decide +kernel
theorem d_NT_in_2 : decode b_NT_in 2 = .ok (.if_icmp .lt 12, 3) := by decide +kernel
theorem d_NT_in_5 : decode b_NT_in 5 = .ok (.iload_n 0, 1) := by decide +kernel
theorem d_NT_in_6 : decode b_NT_in 6 = .ok (.iload_n 2, 1) := by decide +kernel
theorem d_NT_in_7 : decode b_NT_in 7 = .ok (.if_icmp .gt 7, 3) := by decide +kernel
theorem d_NT_in_10 : decode b_NT_in 10 = .ok (.iconst 1, 1) := by decide +kernel
theorem d_NT_in_11 : decode b_NT_in 11 = .ok (.goto 4, 3) := by decide +kernel
theorem d_NT_in_14 : decode b_NT_in 14 = .ok (.iconst 0, 1) := by decide +kernel
theorem d_NT_in_15 : decode b_NT_in 15 = .ok (.ireturn, 1) := by decide +kernel
theorem d_NT_init_0 : decode b_NT_init 0 = .ok (.aload_n 0, 1) := by decide +kernel
theorem d_NT_init_1 : decode b_NT_init 1 = .ok (.invokespecial 1, 3) := by decide +kernel
theorem d_NT_init_4 : decode b_NT_init 4 = .ok (.aload_n 0, 1) := by decide +kernel
theorem d_NT_init_5 : decode b_NT_init 5 = .ok (.new 7, 3) := by decide +kernel
theorem d_NT_init_8 : decode b_NT_init 8 = .ok (.dup, 1) := by decide +kernel
theorem d_NT_init_9 : decode b_NT_init 9 = .ok (.invokespecial 9, 3) := by decide +kernel
theorem d_NT_init_12 : decode b_NT_init 12 = .ok (.putfield 10, 3) := by decide +kernel
theorem d_NT_init_15 : decode b_NT_init 15 = .ok (.return_, 1) := by decide +kernel
theorem d_NT_add_0 : decode b_NT_add 0 = .ok (.iload_n 3, 1) := by decide +kernel
theorem d_NT_add_1 : decode b_NT_add 1 = .ok (.iconst 0, 1) := by decide +kernel
theorem d_NT_add_2 : decode b_NT_add 2 = .ok (.bipush 7, 2) := by decide +kernel
theorem d_NT_add_4 : decode b_NT_add 4 = .ok (.invokestatic 16, 3) := by decide +kernel
theorem d_NT_add_7 : decode b_NT_add 7 = .ok (.ifCond .eq 8, 3) := by decide +kernel
theorem d_NT_add_10 : decode b_NT_add 10 = .ok (.iload 4, 2) := by decide +kernel
theorem d_NT_add_12 : decode b_NT_add 12 = .ok (.ifCond .ge 5, 3) := by decide +kernel
theorem d_NT_add_15 : decode b_NT_add 15 = .ok (.iconst (-1), 1) := by decide +kernel
theorem d_NT_add_16 : decode b_NT_add 16 = .ok (.ireturn, 1) := by decide +kernel
theorem d_NT_add_17 : decode b_NT_add 17 = .ok (.aload_n 0, 1) := by decide +kernel
theorem d_NT_add_18 : decode b_NT_add 18 = .ok (.getfield 10, 3) := by decide +kernel
theorem d_NT_add_21 : decode b_NT_add 21 = .ok (.lload_n 1, 1) := by decide +kernel
theorem d_NT_add_22 : decode b_NT_add 22 = .ok (.iload_n 3, 1) := by decide +kernel
theorem d_NT_add_23 : decode b_NT_add 23 = .ok (.invokevirtual 20, 3) := by decide +kernel
theorem d_NT_add_26 : decode b_NT_add 26 = .ok (.ifCond .lt 6, 3) := by decide +kernel
theorem d_NT_add_29 : decode b_NT_add 29 = .ok (.bipush (-3), 2) := by decide +kernel
theorem d_NT_add_31 : decode b_NT_add 31 = .ok (.ireturn, 1) := by decide +kernel
theorem d_NT_add_32 : decode b_NT_add 32 = .ok (.aload_n 0, 1) := by decide +kernel
theorem d_NT_add_33 : decode b_NT_add 33 = .ok (.getfield 10, 3) := by decide +kernel
theorem d_NT_add_36 : decode b_NT_add 36 = .ok (.getfield 24, 3) := by decide +kernel
theorem d_NT_add_39 : decode b_NT_add 39 = .ok (.sipush 900, 3) := by decide +kernel
theorem d_NT_add_42 : decode b_NT_add 42 = .ok (.if_icmp .ne 6, 3) := by decide +kernel
theorem d_NT_add_45 : decode b_NT_add 45 = .ok (.bipush (-4), 2) := by decide +kernel
theorem d_NT_add_47 : decode b_NT_add 47 = .ok (.ireturn, 1) := by decide +kernel
theorem d_NT_add_48 : decode b_NT_add 48 = .ok (.aload_n 0, 1) := by decide +kernel
theorem d_NT_add_49 : decode b_NT_add 49 = .ok (.getfield 10, 3) := by decide +kernel
theorem d_NT_add_52 : decode b_NT_add 52 = .ok (.lload_n 1, 1) := by decide +kernel
theorem d_NT_add_53 : decode b_NT_add 53 = .ok (.iload_n 3, 1) := by decide +kernel
theorem d_NT_add_54 : decode b_NT_add 54 = .ok (.iload 4, 2) := by decide +kernel
theorem d_NT_add_56 : decode b_NT_add 56 = .ok (.invokevirtual 28, 3) := by decide +kernel
theorem d_NT_add_59 : decode b_NT_add 59 = .ok (.aload_n 0, 1) := by decide +kernel
theorem d_NT_add_60 : decode b_NT_add 60 = .ok (.getfield 10, 3) := by decide +kernel
theorem d_NT_add_63 : decode b_NT_add 63 = .ok (.getfield 24, 3) := by decide +kernel
theorem d_NT_add_66 : decode b_NT_add 66 = .ok (.ireturn, 1) := by decide +kernel
theorem d_NT_some_0 : decode b_NT_some 0 = .ok (.iload 5, 2) := by decide +kernel
theorem d_NT_some_2 : decode b_NT_some 2 = .ok (.iconst 1, 1) := by decide +kernel
theorem d_NT_some_3 : decode b_NT_some 3 = .ok (.bipush 100, 2) := by decide +kernel
theorem d_NT_some_5 : decode b_NT_some 5 = .ok (.invokestatic 16, 3) := by decide +kernel
theorem d_NT_some_8 : decode b_NT_some 8 = .ok (.ifCond .eq 8, 3) := by decide +kernel
theorem d_NT_some_11 : decode b_NT_some 11 = .ok (.iload 6, 2) := by decide +kernel
theorem d_NT_some_13 : decode b_NT_some 13 = .ok (.ifCond .ge 5, 3) := by decide +kernel
theorem d_NT_some_16 : decode b_NT_some 16 = .ok (.iconst (-1), 1) := by decide +kernel
theorem d_NT_some_17 : decode b_NT_some 17 = .ok (.ireturn, 1) := by decide +kernel
theorem d_NT_some_18 : decode b_NT_some 18 = .ok (.iconst 0, 1) := by decide +kernel
theorem d_NT_some_19 : decode b_NT_some 19 = .ok (.istore 7, 2) := by decide +kernel
theorem d_NT_some_21 : decode b_NT_some 21 = .ok (.iconst 0, 1) := by decide +kernel
theorem d_NT_some_22 : decode b_NT_some 22 = .ok (.istore 8, 2) := by decide +kernel
theorem d_NT_some_24 : decode b_NT_some 24 = .ok (.iload 8, 2) := by decide +kernel
theorem d_NT_some_26 : decode b_NT_some 26 = .ok (.iload 5, 2) := by decide +kernel
theorem d_NT_some_28 : decode b_NT_some 28 = .ok (.if_icmp .ge 33, 3) := by decide +kernel
theorem d_NT_some_31 : decode b_NT_some 31 = .ok (.aload_n 0, 1) := by decide +kernel
theorem d_NT_some_32 : decode b_NT_some 32 = .ok (.lload_n 1, 1) := by decide +kernel
theorem d_NT_some_33 : decode b_NT_some 33 = .ok (.iload 8, 2) := by decide +kernel
theorem d_NT_some_35 : decode b_NT_some 35 = .ok (.i2l, 1) := by decide +kernel
theorem d_NT_some_36 : decode b_NT_some 36 = .ok (.lload_n 3, 1) := by decide +kernel
theorem d_NT_some_37 : decode b_NT_some 37 = .ok (.lmul, 1) := by decide +kernel
theorem d_NT_some_38 : decode b_NT_some 38 = .ok (.ladd, 1) := by decide +kernel
theorem d_NT_some_39 : decode b_NT_some 39 = .ok (.iload 8, 2) := by decide +kernel
theorem d_NT_some_41 : decode b_NT_some 41 = .ok (.bipush 7, 2) := by decide +kernel
theorem d_NT_some_43 : decode b_NT_some 43 = .ok (.iand, 1) := by decide +kernel
theorem d_NT_some_44 : decode b_NT_some 44 = .ok (.iload 6, 2) := by decide +kernel
theorem d_NT_some_46 : decode b_NT_some 46 = .ok (.invokevirtual 32, 3) := by decide +kernel
theorem d_NT_some_49 : decode b_NT_some 49 = .ok (.ifCond .le 6, 3) := by decide +kernel
theorem d_NT_some_52 : decode b_NT_some 52 = .ok (.iinc 7 1, 3) := by decide +kernel
theorem d_NT_some_55 : decode b_NT_some 55 = .ok (.iinc 8 1, 3) := by decide +kernel
theorem d_NT_some_58 : decode b_NT_some 58 = .ok (.goto (-34), 3) := by decide +kernel
theorem d_NT_some_61 : decode b_NT_some 61 = .ok (.iload 7, 2) := by decide +kernel
theorem d_NT_some_63 : decode b_NT_some 63 = .ok (.ireturn, 1) := by decide +kernel
theorem d_NT_remove_0 : decode b_NT_remove 0 = .ok (.iload_n 3, 1) := by decide +kernel
theorem d_NT_remove_1 : decode b_NT_remove 1 = .ok (.iconst 0, 1) := by decide +kernel
theorem d_NT_remove_2 : decode b_NT_remove 2 = .ok (.bipush 7, 2) := by decide +kernel
theorem d_NT_remove_4 : decode b_NT_remove 4 = .ok (.invokestatic 16, 3) := by decide +kernel
theorem d_NT_remove_7 : decode b_NT_remove 7 = .ok (.ifCond .ne 5, 3) := by decide +kernel
theorem d_NT_remove_10 : decode b_NT_remove 10 = .ok (.iconst (-1), 1) := by decide +kernel
theorem d_NT_remove_11 : decode b_NT_remove 11 = .ok (.ireturn, 1) := by decide +kernel
theorem d_NT_remove_12 : decode b_NT_remove 12 = .ok (.aload_n 0, 1) := by decide +kernel
theorem d_NT_remove_13 : decode b_NT_remove 13 = .ok (.getfield 10, 3) := by decide +kernel
theorem d_NT_remove_16 : decode b_NT_remove 16 = .ok (.lload_n 1, 1) := by decide +kernel
theorem d_NT_remove_17 : decode b_NT_remove 17 = .ok (.iload_n 3, 1) := by decide +kernel
theorem d_NT_remove_18 : decode b_NT_remove 18 = .ok (.invokevirtual 20, 3) := by decide +kernel
theorem d_NT_remove_21 : decode b_NT_remove 21 = .ok (.istore 4, 2) := by decide +kernel
theorem d_NT_remove_23 : decode b_NT_remove 23 = .ok (.iload 4, 2) := by decide +kernel
theorem d_NT_remove_25 : decode b_NT_remove 25 = .ok (.ifCond .ge 6, 3) := by decide +kernel
theorem d_NT_remove_28 : decode b_NT_remove 28 = .ok (.bipush (-2), 2) := by decide +kernel
theorem d_NT_remove_30 : decode b_NT_remove 30 = .ok (.ireturn, 1) := by decide +kernel
theorem d_NT_remove_31 : decode b_NT_remove 31 = .ok (.aload_n 0, 1) := by decide +kernel
theorem d_NT_remove_32 : decode b_NT_remove 32 = .ok (.getfield 10, 3) := by decide +kernel
theorem d_NT_remove_35 : decode b_NT_remove 35 = .ok (.iload 4, 2) := by decide +kernel
theorem d_NT_remove_37 : decode b_NT_remove 37 = .ok (.invokevirtual 35, 3) := by decide +kernel
theorem d_NT_remove_40 : decode b_NT_remove 40 = .ok (.aload_n 0, 1) := by decide +kernel
theorem d_NT_remove_41 : decode b_NT_remove 41 = .ok (.getfield 10, 3) := by decide +kernel
theorem d_NT_remove_44 : decode b_NT_remove 44 = .ok (.getfield 39, 3) := by decide +kernel
theorem d_NT_remove_47 : decode b_NT_remove 47 = .ok (.iload 4, 2) := by decide +kernel
theorem d_NT_remove_49 : decode b_NT_remove 49 = .ok (.iaload, 1) := by decide +kernel
theorem d_NT_remove_50 : decode b_NT_remove 50 = .ok (.ireturn, 1) := by decide +kernel
theorem d_NT_take_0 : decode b_NT_take 0 = .ok (.aload_n 0, 1) := by decide +kernel
theorem d_NT_take_1 : decode b_NT_take 1 = .ok (.getfield 10, 3) := by decide +kernel
theorem d_NT_take_4 : decode b_NT_take 4 = .ok (.iload_n 1, 1) := by decide +kernel
theorem d_NT_take_5 : decode b_NT_take 5 = .ok (.invokevirtual 43, 3) := by decide +kernel
theorem d_NT_take_8 : decode b_NT_take 8 = .ok (.istore_n 2, 1) := by decide +kernel
theorem d_NT_take_9 : decode b_NT_take 9 = .ok (.iload_n 2, 1) := by decide +kernel
theorem d_NT_take_10 : decode b_NT_take 10 = .ok (.ifCond .ge 6, 3) := by decide +kernel
theorem d_NT_take_13 : decode b_NT_take 13 = .ok (.bipush (-2), 2) := by decide +kernel
theorem d_NT_take_15 : decode b_NT_take 15 = .ok (.ireturn, 1) := by decide +kernel
theorem d_NT_take_16 : decode b_NT_take 16 = .ok (.aload_n 0, 1) := by decide +kernel
theorem d_NT_take_17 : decode b_NT_take 17 = .ok (.getfield 10, 3) := by decide +kernel
theorem d_NT_take_20 : decode b_NT_take 20 = .ok (.iload_n 2, 1) := by decide +kernel
theorem d_NT_take_21 : decode b_NT_take 21 = .ok (.invokevirtual 35, 3) := by decide +kernel
theorem d_NT_take_24 : decode b_NT_take 24 = .ok (.aload_n 0, 1) := by decide +kernel
theorem d_NT_take_25 : decode b_NT_take 25 = .ok (.getfield 10, 3) := by decide +kernel
theorem d_NT_take_28 : decode b_NT_take 28 = .ok (.getfield 39, 3) := by decide +kernel
theorem d_NT_take_31 : decode b_NT_take 31 = .ok (.iload_n 2, 1) := by decide +kernel
theorem d_NT_take_32 : decode b_NT_take 32 = .ok (.iaload, 1) := by decide +kernel
theorem d_NT_take_33 : decode b_NT_take 33 = .ok (.ireturn, 1) := by decide +kernel
theorem d_NT_get_0 : decode b_NT_get 0 = .ok (.iload_n 3, 1) := by decide +kernel
theorem d_NT_get_1 : decode b_NT_get 1 = .ok (.iconst 0, 1) := by decide +kernel
theorem d_NT_get_2 : decode b_NT_get 2 = .ok (.bipush 7, 2) := by decide +kernel
theorem d_NT_get_4 : decode b_NT_get 4 = .ok (.invokestatic 16, 3) := by decide +kernel
theorem d_NT_get_7 : decode b_NT_get 7 = .ok (.ifCond .ne 5, 3) := by decide +kernel
theorem d_NT_get_10 : decode b_NT_get 10 = .ok (.iconst (-1), 1) := by decide +kernel
theorem d_NT_get_11 : decode b_NT_get 11 = .ok (.ireturn, 1) := by decide +kernel
theorem d_NT_get_12 : decode b_NT_get 12 = .ok (.aload_n 0, 1) := by decide +kernel
theorem d_NT_get_13 : decode b_NT_get 13 = .ok (.getfield 10, 3) := by decide +kernel
theorem d_NT_get_16 : decode b_NT_get 16 = .ok (.lload_n 1, 1) := by decide +kernel
theorem d_NT_get_17 : decode b_NT_get 17 = .ok (.iload_n 3, 1) := by decide +kernel
theorem d_NT_get_18 : decode b_NT_get 18 = .ok (.invokevirtual 20, 3) := by decide +kernel
theorem d_NT_get_21 : decode b_NT_get 21 = .ok (.istore 4, 2) := by decide +kernel
theorem d_NT_get_23 : decode b_NT_get 23 = .ok (.iload 4, 2) := by decide +kernel
theorem d_NT_get_25 : decode b_NT_get 25 = .ok (.ifCond .ge 8, 3) := by decide +kernel
theorem d_NT_get_28 : decode b_NT_get 28 = .ok (.bipush (-2), 2) := by decide +kernel
theorem d_NT_get_30 : decode b_NT_get 30 = .ok (.goto 13, 3) := by decide +kernel
theorem d_NT_get_33 : decode b_NT_get 33 = .ok (.aload_n 0, 1) := by decide +kernel
theorem d_NT_get_34 : decode b_NT_get 34 = .ok (.getfield 10, 3) := by decide +kernel
theorem d_NT_get_37 : decode b_NT_get 37 = .ok (.getfield 39, 3) := by decide +kernel
theorem d_NT_get_40 : decode b_NT_get 40 = .ok (.iload 4, 2) := by decide +kernel
theorem d_NT_get_42 : decode b_NT_get 42 = .ok (.iaload, 1) := by decide +kernel
theorem d_NT_get_43 : decode b_NT_get 43 = .ok (.ireturn, 1) := by decide +kernel
theorem d_NT_name_0 : decode b_NT_name 0 = .ok (.aload_n 0, 1) := by decide +kernel
theorem d_NT_name_1 : decode b_NT_name 1 = .ok (.getfield 10, 3) := by decide +kernel
theorem d_NT_name_4 : decode b_NT_name 4 = .ok (.iload_n 1, 1) := by decide +kernel
theorem d_NT_name_5 : decode b_NT_name 5 = .ok (.invokevirtual 43, 3) := by decide +kernel
theorem d_NT_name_8 : decode b_NT_name 8 = .ok (.istore_n 2, 1) := by decide +kernel
theorem d_NT_name_9 : decode b_NT_name 9 = .ok (.iload_n 2, 1) := by decide +kernel
theorem d_NT_name_10 : decode b_NT_name 10 = .ok (.ifCond .ge 7, 3) := by decide +kernel
theorem d_NT_name_13 : decode b_NT_name 13 = .ok (.lconst 0, 1) := by decide +kernel
theorem d_NT_name_14 : decode b_NT_name 14 = .ok (.goto 12, 3) := by decide +kernel
theorem d_NT_name_17 : decode b_NT_name 17 = .ok (.aload_n 0, 1) := by decide +kernel
theorem d_NT_name_18 : decode b_NT_name 18 = .ok (.getfield 10, 3) := by decide +kernel
theorem d_NT_name_21 : decode b_NT_name 21 = .ok (.getfield 47, 3) := by decide +kernel
theorem d_NT_name_24 : decode b_NT_name 24 = .ok (.iload_n 2, 1) := by decide +kernel
theorem d_NT_name_25 : decode b_NT_name 25 = .ok (.laload, 1) := by decide +kernel
theorem d_NT_name_26 : decode b_NT_name 26 = .ok (.lreturn, 1) := by decide +kernel
theorem d_NT_index_0 : decode b_NT_index 0 = .ok (.aload_n 0, 1) := by decide +kernel
theorem d_NT_index_1 : decode b_NT_index 1 = .ok (.getfield 10, 3) := by decide +kernel
theorem d_NT_index_4 : decode b_NT_index 4 = .ok (.iload_n 1, 1) := by decide +kernel
theorem d_NT_index_5 : decode b_NT_index 5 = .ok (.invokevirtual 43, 3) := by decide +kernel
theorem d_NT_index_8 : decode b_NT_index 8 = .ok (.istore_n 2, 1) := by decide +kernel
theorem d_NT_index_9 : decode b_NT_index 9 = .ok (.iload_n 2, 1) := by decide +kernel
theorem d_NT_index_10 : decode b_NT_index 10 = .ok (.ifCond .ge 8, 3) := by decide +kernel
theorem d_NT_index_13 : decode b_NT_index 13 = .ok (.bipush (-2), 2) := by decide +kernel
theorem d_NT_index_15 : decode b_NT_index 15 = .ok (.goto 12, 3) := by decide +kernel
theorem d_NT_index_18 : decode b_NT_index 18 = .ok (.aload_n 0, 1) := by decide +kernel
theorem d_NT_index_19 : decode b_NT_index 19 = .ok (.getfield 10, 3) := by decide +kernel
theorem d_NT_index_22 : decode b_NT_index 22 = .ok (.getfield 51, 3) := by decide +kernel
theorem d_NT_index_25 : decode b_NT_index 25 = .ok (.iload_n 2, 1) := by decide +kernel
theorem d_NT_index_26 : decode b_NT_index 26 = .ok (.iaload, 1) := by decide +kernel
theorem d_NT_index_27 : decode b_NT_index 27 = .ok (.ireturn, 1) := by decide +kernel
theorem d_NT_many_0 : decode b_NT_many 0 = .ok (.aload_n 0, 1) := by decide +kernel
theorem d_NT_many_1 : decode b_NT_many 1 = .ok (.getfield 10, 3) := by decide +kernel
theorem d_NT_many_4 : decode b_NT_many 4 = .ok (.getfield 24, 3) := by decide +kernel
theorem d_NT_many_7 : decode b_NT_many 7 = .ok (.ireturn, 1) := by decide +kernel
theorem d_NT_value_0 : decode b_NT_value 0 = .ok (.aload_n 0, 1) := by decide +kernel
theorem d_NT_value_1 : decode b_NT_value 1 = .ok (.getfield 10, 3) := by decide +kernel
theorem d_NT_value_4 : decode b_NT_value 4 = .ok (.getfield 54, 3) := by decide +kernel
theorem d_NT_value_7 : decode b_NT_value 7 = .ok (.lreturn, 1) := by decide +kernel
theorem d_MO_init_0 : decode b_MO_init 0 = .ok (.aload_n 0, 1) := by decide +kernel
theorem d_MO_init_1 : decode b_MO_init 1 = .ok (.invokespecial 1, 3) := by decide +kernel
theorem d_MO_init_4 : decode b_MO_init 4 = .ok (.aload_n 0, 1) := by decide +kernel
theorem d_MO_init_5 : decode b_MO_init 5 = .ok (.sipush 900, 3) := by decide +kernel
theorem d_MO_init_8 : decode b_MO_init 8 = .ok (.newarray .long, 2) := by decide +kernel
theorem d_MO_init_10 : decode b_MO_init 10 = .ok (.putfield 9, 3) := by decide +kernel
theorem d_MO_init_13 : decode b_MO_init 13 = .ok (.aload_n 0, 1) := by decide +kernel
theorem d_MO_init_14 : decode b_MO_init 14 = .ok (.sipush 900, 3) := by decide +kernel
theorem d_MO_init_17 : decode b_MO_init 17 = .ok (.newarray .int, 2) := by decide +kernel
theorem d_MO_init_19 : decode b_MO_init 19 = .ok (.putfield 13, 3) := by decide +kernel
theorem d_MO_init_22 : decode b_MO_init 22 = .ok (.aload_n 0, 1) := by decide +kernel
theorem d_MO_init_23 : decode b_MO_init 23 = .ok (.sipush 900, 3) := by decide +kernel
theorem d_MO_init_26 : decode b_MO_init 26 = .ok (.newarray .int, 2) := by decide +kernel
theorem d_MO_init_28 : decode b_MO_init 28 = .ok (.putfield 17, 3) := by decide +kernel
theorem d_MO_init_31 : decode b_MO_init 31 = .ok (.return_, 1) := by decide +kernel
theorem d_MO_place_0 : decode b_MO_place 0 = .ok (.iconst 0, 1) := by decide +kernel
theorem d_MO_place_1 : decode b_MO_place 1 = .ok (.istore 4, 2) := by decide +kernel
theorem d_MO_place_3 : decode b_MO_place 3 = .ok (.iload 4, 2) := by decide +kernel
theorem d_MO_place_5 : decode b_MO_place 5 = .ok (.aload_n 0, 1) := by decide +kernel
theorem d_MO_place_6 : decode b_MO_place 6 = .ok (.getfield 20, 3) := by decide +kernel
theorem d_MO_place_9 : decode b_MO_place 9 = .ok (.if_icmp .ge 44, 3) := by decide +kernel
theorem d_MO_place_12 : decode b_MO_place 12 = .ok (.aload_n 0, 1) := by decide +kernel
theorem d_MO_place_13 : decode b_MO_place 13 = .ok (.getfield 9, 3) := by decide +kernel
theorem d_MO_place_16 : decode b_MO_place 16 = .ok (.iload 4, 2) := by decide +kernel
theorem d_MO_place_18 : decode b_MO_place 18 = .ok (.laload, 1) := by decide +kernel
theorem d_MO_place_19 : decode b_MO_place 19 = .ok (.lload_n 1, 1) := by decide +kernel
theorem d_MO_place_20 : decode b_MO_place 20 = .ok (.lcmp, 1) := by decide +kernel
theorem d_MO_place_21 : decode b_MO_place 21 = .ok (.ifCond .lt 26, 3) := by decide +kernel
theorem d_MO_place_24 : decode b_MO_place 24 = .ok (.aload_n 0, 1) := by decide +kernel
theorem d_MO_place_25 : decode b_MO_place 25 = .ok (.getfield 9, 3) := by decide +kernel
theorem d_MO_place_28 : decode b_MO_place 28 = .ok (.iload 4, 2) := by decide +kernel
theorem d_MO_place_30 : decode b_MO_place 30 = .ok (.laload, 1) := by decide +kernel
theorem d_MO_place_31 : decode b_MO_place 31 = .ok (.lload_n 1, 1) := by decide +kernel
theorem d_MO_place_32 : decode b_MO_place 32 = .ok (.lcmp, 1) := by decide +kernel
theorem d_MO_place_33 : decode b_MO_place 33 = .ok (.ifCond .ne 20, 3) := by decide +kernel
theorem d_MO_place_36 : decode b_MO_place 36 = .ok (.aload_n 0, 1) := by decide +kernel
theorem d_MO_place_37 : decode b_MO_place 37 = .ok (.getfield 13, 3) := by decide +kernel
theorem d_MO_place_40 : decode b_MO_place 40 = .ok (.iload 4, 2) := by decide +kernel
theorem d_MO_place_42 : decode b_MO_place 42 = .ok (.iaload, 1) := by decide +kernel
theorem d_MO_place_43 : decode b_MO_place 43 = .ok (.iload_n 3, 1) := by decide +kernel
theorem d_MO_place_44 : decode b_MO_place 44 = .ok (.if_icmp .ge 9, 3) := by decide +kernel
theorem d_MO_place_47 : decode b_MO_place 47 = .ok (.iinc 4 1, 3) := by decide +kernel
theorem d_MO_place_50 : decode b_MO_place 50 = .ok (.goto (-47), 3) := by decide +kernel
theorem d_MO_place_53 : decode b_MO_place 53 = .ok (.iload 4, 2) := by decide +kernel
theorem d_MO_place_55 : decode b_MO_place 55 = .ok (.ireturn, 1) := by decide +kernel
theorem d_MO_is_0 : decode b_MO_is 0 = .ok (.iload_n 1, 1) := by decide +kernel
theorem d_MO_is_1 : decode b_MO_is 1 = .ok (.aload_n 0, 1) := by decide +kernel
theorem d_MO_is_2 : decode b_MO_is 2 = .ok (.getfield 20, 3) := by decide +kernel
theorem d_MO_is_5 : decode b_MO_is 5 = .ok (.if_icmp .ge 29, 3) := by decide +kernel
theorem d_MO_is_8 : decode b_MO_is 8 = .ok (.aload_n 0, 1) := by decide +kernel
theorem d_MO_is_9 : decode b_MO_is 9 = .ok (.getfield 9, 3) := by decide +kernel
theorem d_MO_is_12 : decode b_MO_is 12 = .ok (.iload_n 1, 1) := by decide +kernel
theorem d_MO_is_13 : decode b_MO_is 13 = .ok (.laload, 1) := by decide +kernel
theorem d_MO_is_14 : decode b_MO_is 14 = .ok (.lload_n 2, 1) := by decide +kernel
theorem d_MO_is_15 : decode b_MO_is 15 = .ok (.lcmp, 1) := by decide +kernel
theorem d_MO_is_16 : decode b_MO_is 16 = .ok (.ifCond .ne 18, 3) := by decide +kernel
theorem d_MO_is_19 : decode b_MO_is 19 = .ok (.aload_n 0, 1) := by decide +kernel
theorem d_MO_is_20 : decode b_MO_is 20 = .ok (.getfield 13, 3) := by decide +kernel
theorem d_MO_is_23 : decode b_MO_is 23 = .ok (.iload_n 1, 1) := by decide +kernel
theorem d_MO_is_24 : decode b_MO_is 24 = .ok (.iaload, 1) := by decide +kernel
theorem d_MO_is_25 : decode b_MO_is 25 = .ok (.iload 4, 2) := by decide +kernel
theorem d_MO_is_27 : decode b_MO_is 27 = .ok (.if_icmp .ne 7, 3) := by decide +kernel
theorem d_MO_is_30 : decode b_MO_is 30 = .ok (.iconst 1, 1) := by decide +kernel
theorem d_MO_is_31 : decode b_MO_is 31 = .ok (.goto 4, 3) := by decide +kernel
theorem d_MO_is_34 : decode b_MO_is 34 = .ok (.iconst 0, 1) := by decide +kernel
theorem d_MO_is_35 : decode b_MO_is 35 = .ok (.ireturn, 1) := by decide +kernel
theorem d_MO_add_0 : decode b_MO_add 0 = .ok (.iload_n 3, 1) := by decide +kernel
theorem d_MO_add_1 : decode b_MO_add 1 = .ok (.ifCond .lt 14, 3) := by decide +kernel
theorem d_MO_add_4 : decode b_MO_add 4 = .ok (.iload_n 3, 1) := by decide +kernel
theorem d_MO_add_5 : decode b_MO_add 5 = .ok (.bipush 7, 2) := by decide +kernel
theorem d_MO_add_7 : decode b_MO_add 7 = .ok (.if_icmp .gt 8, 3) := by decide +kernel
theorem d_MO_add_10 : decode b_MO_add 10 = .ok (.iload 4, 2) := by decide +kernel
theorem d_MO_add_12 : decode b_MO_add 12 = .ok (.ifCond .ge 5, 3) := by decide +kernel
theorem d_MO_add_15 : decode b_MO_add 15 = .ok (.iconst (-1), 1) := by decide +kernel
theorem d_MO_add_16 : decode b_MO_add 16 = .ok (.ireturn, 1) := by decide +kernel
theorem d_MO_add_17 : decode b_MO_add 17 = .ok (.aload_n 0, 1) := by decide +kernel
theorem d_MO_add_18 : decode b_MO_add 18 = .ok (.lload_n 1, 1) := by decide +kernel
theorem d_MO_add_19 : decode b_MO_add 19 = .ok (.iload_n 3, 1) := by decide +kernel
theorem d_MO_add_20 : decode b_MO_add 20 = .ok (.invokevirtual 24, 3) := by decide +kernel
theorem d_MO_add_23 : decode b_MO_add 23 = .ok (.istore 5, 2) := by decide +kernel
theorem d_MO_add_25 : decode b_MO_add 25 = .ok (.aload_n 0, 1) := by decide +kernel
theorem d_MO_add_26 : decode b_MO_add 26 = .ok (.iload 5, 2) := by decide +kernel
theorem d_MO_add_28 : decode b_MO_add 28 = .ok (.lload_n 1, 1) := by decide +kernel
theorem d_MO_add_29 : decode b_MO_add 29 = .ok (.iload_n 3, 1) := by decide +kernel
theorem d_MO_add_30 : decode b_MO_add 30 = .ok (.invokevirtual 28, 3) := by decide +kernel
theorem d_MO_add_33 : decode b_MO_add 33 = .ok (.ifCond .eq 6, 3) := by decide +kernel
theorem d_MO_add_36 : decode b_MO_add 36 = .ok (.bipush (-3), 2) := by decide +kernel
theorem d_MO_add_38 : decode b_MO_add 38 = .ok (.ireturn, 1) := by decide +kernel
theorem d_MO_add_39 : decode b_MO_add 39 = .ok (.aload_n 0, 1) := by decide +kernel
theorem d_MO_add_40 : decode b_MO_add 40 = .ok (.getfield 20, 3) := by decide +kernel
theorem d_MO_add_43 : decode b_MO_add 43 = .ok (.sipush 900, 3) := by decide +kernel
theorem d_MO_add_46 : decode b_MO_add 46 = .ok (.if_icmp .ne 6, 3) := by decide +kernel
theorem d_MO_add_49 : decode b_MO_add 49 = .ok (.bipush (-4), 2) := by decide +kernel
theorem d_MO_add_51 : decode b_MO_add 51 = .ok (.ireturn, 1) := by decide +kernel
theorem d_MO_add_52 : decode b_MO_add 52 = .ok (.aload_n 0, 1) := by decide +kernel
theorem d_MO_add_53 : decode b_MO_add 53 = .ok (.getfield 20, 3) := by decide +kernel
theorem d_MO_add_56 : decode b_MO_add 56 = .ok (.istore 6, 2) := by decide +kernel
theorem d_MO_add_58 : decode b_MO_add 58 = .ok (.iload 6, 2) := by decide +kernel
theorem d_MO_add_60 : decode b_MO_add 60 = .ok (.iload 5, 2) := by decide +kernel
theorem d_MO_add_62 : decode b_MO_add 62 = .ok (.if_icmp .le 57, 3) := by decide +kernel
theorem d_MO_add_65 : decode b_MO_add 65 = .ok (.aload_n 0, 1) := by decide +kernel
theorem d_MO_add_66 : decode b_MO_add 66 = .ok (.getfield 9, 3) := by decide +kernel
theorem d_MO_add_69 : decode b_MO_add 69 = .ok (.iload 6, 2) := by decide +kernel
theorem d_MO_add_71 : decode b_MO_add 71 = .ok (.aload_n 0, 1) := by decide +kernel
theorem d_MO_add_72 : decode b_MO_add 72 = .ok (.getfield 9, 3) := by decide +kernel
theorem d_MO_add_75 : decode b_MO_add 75 = .ok (.iload 6, 2) := by decide +kernel
theorem d_MO_add_77 : decode b_MO_add 77 = .ok (.iconst 1, 1) := by decide +kernel
theorem d_MO_add_78 : decode b_MO_add 78 = .ok (.isub, 1) := by decide +kernel
theorem d_MO_add_79 : decode b_MO_add 79 = .ok (.laload, 1) := by decide +kernel
theorem d_MO_add_80 : decode b_MO_add 80 = .ok (.lastore, 1) := by decide +kernel
theorem d_MO_add_81 : decode b_MO_add 81 = .ok (.aload_n 0, 1) := by decide +kernel
theorem d_MO_add_82 : decode b_MO_add 82 = .ok (.getfield 13, 3) := by decide +kernel
theorem d_MO_add_85 : decode b_MO_add 85 = .ok (.iload 6, 2) := by decide +kernel
theorem d_MO_add_87 : decode b_MO_add 87 = .ok (.aload_n 0, 1) := by decide +kernel
theorem d_MO_add_88 : decode b_MO_add 88 = .ok (.getfield 13, 3) := by decide +kernel
theorem d_MO_add_91 : decode b_MO_add 91 = .ok (.iload 6, 2) := by decide +kernel
theorem d_MO_add_93 : decode b_MO_add 93 = .ok (.iconst 1, 1) := by decide +kernel
theorem d_MO_add_94 : decode b_MO_add 94 = .ok (.isub, 1) := by decide +kernel
theorem d_MO_add_95 : decode b_MO_add 95 = .ok (.iaload, 1) := by decide +kernel
theorem d_MO_add_96 : decode b_MO_add 96 = .ok (.iastore, 1) := by decide +kernel
theorem d_MO_add_97 : decode b_MO_add 97 = .ok (.aload_n 0, 1) := by decide +kernel
theorem d_MO_add_98 : decode b_MO_add 98 = .ok (.getfield 17, 3) := by decide +kernel
theorem d_MO_add_101 : decode b_MO_add 101 = .ok (.iload 6, 2) := by decide +kernel
theorem d_MO_add_103 : decode b_MO_add 103 = .ok (.aload_n 0, 1) := by decide +kernel
theorem d_MO_add_104 : decode b_MO_add 104 = .ok (.getfield 17, 3) := by decide +kernel
theorem d_MO_add_107 : decode b_MO_add 107 = .ok (.iload 6, 2) := by decide +kernel
theorem d_MO_add_109 : decode b_MO_add 109 = .ok (.iconst 1, 1) := by decide +kernel
theorem d_MO_add_110 : decode b_MO_add 110 = .ok (.isub, 1) := by decide +kernel
theorem d_MO_add_111 : decode b_MO_add 111 = .ok (.iaload, 1) := by decide +kernel
theorem d_MO_add_112 : decode b_MO_add 112 = .ok (.iastore, 1) := by decide +kernel
theorem d_MO_add_113 : decode b_MO_add 113 = .ok (.iinc 6 (-1), 3) := by decide +kernel
theorem d_MO_add_116 : decode b_MO_add 116 = .ok (.goto (-58), 3) := by decide +kernel
theorem d_MO_add_119 : decode b_MO_add 119 = .ok (.aload_n 0, 1) := by decide +kernel
theorem d_MO_add_120 : decode b_MO_add 120 = .ok (.getfield 9, 3) := by decide +kernel
theorem d_MO_add_123 : decode b_MO_add 123 = .ok (.iload 5, 2) := by decide +kernel
theorem d_MO_add_125 : decode b_MO_add 125 = .ok (.lload_n 1, 1) := by decide +kernel
theorem d_MO_add_126 : decode b_MO_add 126 = .ok (.lastore, 1) := by decide +kernel
theorem d_MO_add_127 : decode b_MO_add 127 = .ok (.aload_n 0, 1) := by decide +kernel
theorem d_MO_add_128 : decode b_MO_add 128 = .ok (.getfield 13, 3) := by decide +kernel
theorem d_MO_add_131 : decode b_MO_add 131 = .ok (.iload 5, 2) := by decide +kernel
theorem d_MO_add_133 : decode b_MO_add 133 = .ok (.iload_n 3, 1) := by decide +kernel
theorem d_MO_add_134 : decode b_MO_add 134 = .ok (.iastore, 1) := by decide +kernel
theorem d_MO_add_135 : decode b_MO_add 135 = .ok (.aload_n 0, 1) := by decide +kernel
theorem d_MO_add_136 : decode b_MO_add 136 = .ok (.getfield 17, 3) := by decide +kernel
theorem d_MO_add_139 : decode b_MO_add 139 = .ok (.iload 5, 2) := by decide +kernel
theorem d_MO_add_141 : decode b_MO_add 141 = .ok (.iload 4, 2) := by decide +kernel
theorem d_MO_add_143 : decode b_MO_add 143 = .ok (.iastore, 1) := by decide +kernel
theorem d_MO_add_144 : decode b_MO_add 144 = .ok (.aload_n 0, 1) := by decide +kernel
theorem d_MO_add_145 : decode b_MO_add 145 = .ok (.dup, 1) := by decide +kernel
theorem d_MO_add_146 : decode b_MO_add 146 = .ok (.getfield 20, 3) := by decide +kernel
theorem d_MO_add_149 : decode b_MO_add 149 = .ok (.iconst 1, 1) := by decide +kernel
theorem d_MO_add_150 : decode b_MO_add 150 = .ok (.iadd, 1) := by decide +kernel
theorem d_MO_add_151 : decode b_MO_add 151 = .ok (.putfield 20, 3) := by decide +kernel
theorem d_MO_add_154 : decode b_MO_add 154 = .ok (.aload_n 0, 1) := by decide +kernel
theorem d_MO_add_155 : decode b_MO_add 155 = .ok (.getfield 20, 3) := by decide +kernel
theorem d_MO_add_158 : decode b_MO_add 158 = .ok (.ireturn, 1) := by decide +kernel
theorem d_MO_some_0 : decode b_MO_some 0 = .ok (.iload 5, 2) := by decide +kernel
theorem d_MO_some_2 : decode b_MO_some 2 = .ok (.iconst 1, 1) := by decide +kernel
theorem d_MO_some_3 : decode b_MO_some 3 = .ok (.if_icmp .lt 15, 3) := by decide +kernel
theorem d_MO_some_6 : decode b_MO_some 6 = .ok (.iload 5, 2) := by decide +kernel
theorem d_MO_some_8 : decode b_MO_some 8 = .ok (.bipush 100, 2) := by decide +kernel
theorem d_MO_some_10 : decode b_MO_some 10 = .ok (.if_icmp .gt 8, 3) := by decide +kernel
theorem d_MO_some_13 : decode b_MO_some 13 = .ok (.iload 6, 2) := by decide +kernel
theorem d_MO_some_15 : decode b_MO_some 15 = .ok (.ifCond .ge 5, 3) := by decide +kernel
theorem d_MO_some_18 : decode b_MO_some 18 = .ok (.iconst (-1), 1) := by decide +kernel
theorem d_MO_some_19 : decode b_MO_some 19 = .ok (.ireturn, 1) := by decide +kernel
theorem d_MO_some_20 : decode b_MO_some 20 = .ok (.iconst 0, 1) := by decide +kernel
theorem d_MO_some_21 : decode b_MO_some 21 = .ok (.istore 7, 2) := by decide +kernel
theorem d_MO_some_23 : decode b_MO_some 23 = .ok (.iconst 0, 1) := by decide +kernel
theorem d_MO_some_24 : decode b_MO_some 24 = .ok (.istore 8, 2) := by decide +kernel
theorem d_MO_some_26 : decode b_MO_some 26 = .ok (.iload 8, 2) := by decide +kernel
theorem d_MO_some_28 : decode b_MO_some 28 = .ok (.iload 5, 2) := by decide +kernel
theorem d_MO_some_30 : decode b_MO_some 30 = .ok (.if_icmp .ge 33, 3) := by decide +kernel
theorem d_MO_some_33 : decode b_MO_some 33 = .ok (.aload_n 0, 1) := by decide +kernel
theorem d_MO_some_34 : decode b_MO_some 34 = .ok (.lload_n 1, 1) := by decide +kernel
theorem d_MO_some_35 : decode b_MO_some 35 = .ok (.iload 8, 2) := by decide +kernel
theorem d_MO_some_37 : decode b_MO_some 37 = .ok (.i2l, 1) := by decide +kernel
theorem d_MO_some_38 : decode b_MO_some 38 = .ok (.lload_n 3, 1) := by decide +kernel
theorem d_MO_some_39 : decode b_MO_some 39 = .ok (.lmul, 1) := by decide +kernel
theorem d_MO_some_40 : decode b_MO_some 40 = .ok (.ladd, 1) := by decide +kernel
theorem d_MO_some_41 : decode b_MO_some 41 = .ok (.iload 8, 2) := by decide +kernel
theorem d_MO_some_43 : decode b_MO_some 43 = .ok (.bipush 8, 2) := by decide +kernel
theorem d_MO_some_45 : decode b_MO_some 45 = .ok (.irem, 1) := by decide +kernel
theorem d_MO_some_46 : decode b_MO_some 46 = .ok (.iload 6, 2) := by decide +kernel
theorem d_MO_some_48 : decode b_MO_some 48 = .ok (.invokevirtual 32, 3) := by decide +kernel
theorem d_MO_some_51 : decode b_MO_some 51 = .ok (.ifCond .le 6, 3) := by decide +kernel
theorem d_MO_some_54 : decode b_MO_some 54 = .ok (.iinc 7 1, 3) := by decide +kernel
theorem d_MO_some_57 : decode b_MO_some 57 = .ok (.iinc 8 1, 3) := by decide +kernel
theorem d_MO_some_60 : decode b_MO_some 60 = .ok (.goto (-34), 3) := by decide +kernel
theorem d_MO_some_63 : decode b_MO_some 63 = .ok (.iload 7, 2) := by decide +kernel
theorem d_MO_some_65 : decode b_MO_some 65 = .ok (.ireturn, 1) := by decide +kernel
theorem d_MO_go_0 : decode b_MO_go 0 = .ok (.aload_n 0, 1) := by decide +kernel
theorem d_MO_go_1 : decode b_MO_go 1 = .ok (.getfield 17, 3) := by decide +kernel
theorem d_MO_go_4 : decode b_MO_go 4 = .ok (.iload_n 1, 1) := by decide +kernel
theorem d_MO_go_5 : decode b_MO_go 5 = .ok (.iaload, 1) := by decide +kernel
theorem d_MO_go_6 : decode b_MO_go 6 = .ok (.istore_n 2, 1) := by decide +kernel
theorem d_MO_go_7 : decode b_MO_go 7 = .ok (.aload_n 0, 1) := by decide +kernel
theorem d_MO_go_8 : decode b_MO_go 8 = .ok (.dup, 1) := by decide +kernel
theorem d_MO_go_9 : decode b_MO_go 9 = .ok (.getfield 20, 3) := by decide +kernel
theorem d_MO_go_12 : decode b_MO_go 12 = .ok (.iconst 1, 1) := by decide +kernel
theorem d_MO_go_13 : decode b_MO_go 13 = .ok (.isub, 1) := by decide +kernel
theorem d_MO_go_14 : decode b_MO_go 14 = .ok (.putfield 20, 3) := by decide +kernel
theorem d_MO_go_17 : decode b_MO_go 17 = .ok (.iload_n 1, 1) := by decide +kernel
theorem d_MO_go_18 : decode b_MO_go 18 = .ok (.istore_n 3, 1) := by decide +kernel
theorem d_MO_go_19 : decode b_MO_go 19 = .ok (.iload_n 3, 1) := by decide +kernel
theorem d_MO_go_20 : decode b_MO_go 20 = .ok (.aload_n 0, 1) := by decide +kernel
theorem d_MO_go_21 : decode b_MO_go 21 = .ok (.getfield 20, 3) := by decide +kernel
theorem d_MO_go_24 : decode b_MO_go 24 = .ok (.if_icmp .ge 51, 3) := by decide +kernel
theorem d_MO_go_27 : decode b_MO_go 27 = .ok (.aload_n 0, 1) := by decide +kernel
theorem d_MO_go_28 : decode b_MO_go 28 = .ok (.getfield 9, 3) := by decide +kernel
theorem d_MO_go_31 : decode b_MO_go 31 = .ok (.iload_n 3, 1) := by decide +kernel
theorem d_MO_go_32 : decode b_MO_go 32 = .ok (.aload_n 0, 1) := by decide +kernel
theorem d_MO_go_33 : decode b_MO_go 33 = .ok (.getfield 9, 3) := by decide +kernel
theorem d_MO_go_36 : decode b_MO_go 36 = .ok (.iload_n 3, 1) := by decide +kernel
theorem d_MO_go_37 : decode b_MO_go 37 = .ok (.iconst 1, 1) := by decide +kernel
theorem d_MO_go_38 : decode b_MO_go 38 = .ok (.iadd, 1) := by decide +kernel
theorem d_MO_go_39 : decode b_MO_go 39 = .ok (.laload, 1) := by decide +kernel
theorem d_MO_go_40 : decode b_MO_go 40 = .ok (.lastore, 1) := by decide +kernel
theorem d_MO_go_41 : decode b_MO_go 41 = .ok (.aload_n 0, 1) := by decide +kernel
theorem d_MO_go_42 : decode b_MO_go 42 = .ok (.getfield 13, 3) := by decide +kernel
theorem d_MO_go_45 : decode b_MO_go 45 = .ok (.iload_n 3, 1) := by decide +kernel
theorem d_MO_go_46 : decode b_MO_go 46 = .ok (.aload_n 0, 1) := by decide +kernel
theorem d_MO_go_47 : decode b_MO_go 47 = .ok (.getfield 13, 3) := by decide +kernel
theorem d_MO_go_50 : decode b_MO_go 50 = .ok (.iload_n 3, 1) := by decide +kernel
theorem d_MO_go_51 : decode b_MO_go 51 = .ok (.iconst 1, 1) := by decide +kernel
theorem d_MO_go_52 : decode b_MO_go 52 = .ok (.iadd, 1) := by decide +kernel
theorem d_MO_go_53 : decode b_MO_go 53 = .ok (.iaload, 1) := by decide +kernel
theorem d_MO_go_54 : decode b_MO_go 54 = .ok (.iastore, 1) := by decide +kernel
theorem d_MO_go_55 : decode b_MO_go 55 = .ok (.aload_n 0, 1) := by decide +kernel
theorem d_MO_go_56 : decode b_MO_go 56 = .ok (.getfield 17, 3) := by decide +kernel
theorem d_MO_go_59 : decode b_MO_go 59 = .ok (.iload_n 3, 1) := by decide +kernel
theorem d_MO_go_60 : decode b_MO_go 60 = .ok (.aload_n 0, 1) := by decide +kernel
theorem d_MO_go_61 : decode b_MO_go 61 = .ok (.getfield 17, 3) := by decide +kernel
theorem d_MO_go_64 : decode b_MO_go 64 = .ok (.iload_n 3, 1) := by decide +kernel
theorem d_MO_go_65 : decode b_MO_go 65 = .ok (.iconst 1, 1) := by decide +kernel
theorem d_MO_go_66 : decode b_MO_go 66 = .ok (.iadd, 1) := by decide +kernel
theorem d_MO_go_67 : decode b_MO_go 67 = .ok (.iaload, 1) := by decide +kernel
theorem d_MO_go_68 : decode b_MO_go 68 = .ok (.iastore, 1) := by decide +kernel
theorem d_MO_go_69 : decode b_MO_go 69 = .ok (.iinc 3 1, 3) := by decide +kernel
theorem d_MO_go_72 : decode b_MO_go 72 = .ok (.goto (-53), 3) := by decide +kernel
theorem d_MO_go_75 : decode b_MO_go 75 = .ok (.iload_n 2, 1) := by decide +kernel
theorem d_MO_go_76 : decode b_MO_go 76 = .ok (.ireturn, 1) := by decide +kernel
theorem d_MO_remove_0 : decode b_MO_remove 0 = .ok (.iload_n 3, 1) := by decide +kernel
theorem d_MO_remove_1 : decode b_MO_remove 1 = .ok (.ifCond .lt 9, 3) := by decide +kernel
theorem d_MO_remove_4 : decode b_MO_remove 4 = .ok (.iload_n 3, 1) := by decide +kernel
theorem d_MO_remove_5 : decode b_MO_remove 5 = .ok (.bipush 7, 2) := by decide +kernel
theorem d_MO_remove_7 : decode b_MO_remove 7 = .ok (.if_icmp .le 5, 3) := by decide +kernel
theorem d_MO_remove_10 : decode b_MO_remove 10 = .ok (.iconst (-1), 1) := by decide +kernel
theorem d_MO_remove_11 : decode b_MO_remove 11 = .ok (.ireturn, 1) := by decide +kernel
theorem d_MO_remove_12 : decode b_MO_remove 12 = .ok (.aload_n 0, 1) := by decide +kernel
theorem d_MO_remove_13 : decode b_MO_remove 13 = .ok (.lload_n 1, 1) := by decide +kernel
theorem d_MO_remove_14 : decode b_MO_remove 14 = .ok (.iload_n 3, 1) := by decide +kernel
theorem d_MO_remove_15 : decode b_MO_remove 15 = .ok (.invokevirtual 24, 3) := by decide +kernel
theorem d_MO_remove_18 : decode b_MO_remove 18 = .ok (.istore 4, 2) := by decide +kernel
theorem d_MO_remove_20 : decode b_MO_remove 20 = .ok (.aload_n 0, 1) := by decide +kernel
theorem d_MO_remove_21 : decode b_MO_remove 21 = .ok (.iload 4, 2) := by decide +kernel
theorem d_MO_remove_23 : decode b_MO_remove 23 = .ok (.lload_n 1, 1) := by decide +kernel
theorem d_MO_remove_24 : decode b_MO_remove 24 = .ok (.iload_n 3, 1) := by decide +kernel
theorem d_MO_remove_25 : decode b_MO_remove 25 = .ok (.invokevirtual 28, 3) := by decide +kernel
theorem d_MO_remove_28 : decode b_MO_remove 28 = .ok (.ifCond .eq 12, 3) := by decide +kernel
theorem d_MO_remove_31 : decode b_MO_remove 31 = .ok (.aload_n 0, 1) := by decide +kernel
theorem d_MO_remove_32 : decode b_MO_remove 32 = .ok (.iload 4, 2) := by decide +kernel
theorem d_MO_remove_34 : decode b_MO_remove 34 = .ok (.invokevirtual 36, 3) := by decide +kernel
theorem d_MO_remove_37 : decode b_MO_remove 37 = .ok (.goto 5, 3) := by decide +kernel
theorem d_MO_remove_40 : decode b_MO_remove 40 = .ok (.bipush (-2), 2) := by decide +kernel
theorem d_MO_remove_42 : decode b_MO_remove 42 = .ok (.ireturn, 1) := by decide +kernel
theorem d_MO_take_0 : decode b_MO_take 0 = .ok (.iload_n 1, 1) := by decide +kernel
theorem d_MO_take_1 : decode b_MO_take 1 = .ok (.ifCond .lt 11, 3) := by decide +kernel
theorem d_MO_take_4 : decode b_MO_take 4 = .ok (.iload_n 1, 1) := by decide +kernel
theorem d_MO_take_5 : decode b_MO_take 5 = .ok (.aload_n 0, 1) := by decide +kernel
theorem d_MO_take_6 : decode b_MO_take 6 = .ok (.getfield 20, 3) := by decide +kernel
theorem d_MO_take_9 : decode b_MO_take 9 = .ok (.if_icmp .lt 8, 3) := by decide +kernel
theorem d_MO_take_12 : decode b_MO_take 12 = .ok (.bipush (-2), 2) := by decide +kernel
theorem d_MO_take_14 : decode b_MO_take 14 = .ok (.goto 8, 3) := by decide +kernel
theorem d_MO_take_17 : decode b_MO_take 17 = .ok (.aload_n 0, 1) := by decide +kernel
theorem d_MO_take_18 : decode b_MO_take 18 = .ok (.iload_n 1, 1) := by decide +kernel
theorem d_MO_take_19 : decode b_MO_take 19 = .ok (.invokevirtual 36, 3) := by decide +kernel
theorem d_MO_take_22 : decode b_MO_take 22 = .ok (.ireturn, 1) := by decide +kernel
theorem d_MO_get_0 : decode b_MO_get 0 = .ok (.iload_n 3, 1) := by decide +kernel
theorem d_MO_get_1 : decode b_MO_get 1 = .ok (.ifCond .lt 9, 3) := by decide +kernel
theorem d_MO_get_4 : decode b_MO_get 4 = .ok (.iload_n 3, 1) := by decide +kernel
theorem d_MO_get_5 : decode b_MO_get 5 = .ok (.bipush 7, 2) := by decide +kernel
theorem d_MO_get_7 : decode b_MO_get 7 = .ok (.if_icmp .le 5, 3) := by decide +kernel
theorem d_MO_get_10 : decode b_MO_get 10 = .ok (.iconst (-1), 1) := by decide +kernel
theorem d_MO_get_11 : decode b_MO_get 11 = .ok (.ireturn, 1) := by decide +kernel
theorem d_MO_get_12 : decode b_MO_get 12 = .ok (.aload_n 0, 1) := by decide +kernel
theorem d_MO_get_13 : decode b_MO_get 13 = .ok (.lload_n 1, 1) := by decide +kernel
theorem d_MO_get_14 : decode b_MO_get 14 = .ok (.iload_n 3, 1) := by decide +kernel
theorem d_MO_get_15 : decode b_MO_get 15 = .ok (.invokevirtual 24, 3) := by decide +kernel
theorem d_MO_get_18 : decode b_MO_get 18 = .ok (.istore 4, 2) := by decide +kernel
theorem d_MO_get_20 : decode b_MO_get 20 = .ok (.aload_n 0, 1) := by decide +kernel
theorem d_MO_get_21 : decode b_MO_get 21 = .ok (.iload 4, 2) := by decide +kernel
theorem d_MO_get_23 : decode b_MO_get 23 = .ok (.lload_n 1, 1) := by decide +kernel
theorem d_MO_get_24 : decode b_MO_get 24 = .ok (.iload_n 3, 1) := by decide +kernel
theorem d_MO_get_25 : decode b_MO_get 25 = .ok (.invokevirtual 28, 3) := by decide +kernel
theorem d_MO_get_28 : decode b_MO_get 28 = .ok (.ifCond .eq 13, 3) := by decide +kernel
theorem d_MO_get_31 : decode b_MO_get 31 = .ok (.aload_n 0, 1) := by decide +kernel
theorem d_MO_get_32 : decode b_MO_get 32 = .ok (.getfield 17, 3) := by decide +kernel
theorem d_MO_get_35 : decode b_MO_get 35 = .ok (.iload 4, 2) := by decide +kernel
theorem d_MO_get_37 : decode b_MO_get 37 = .ok (.iaload, 1) := by decide +kernel
theorem d_MO_get_38 : decode b_MO_get 38 = .ok (.goto 5, 3) := by decide +kernel
theorem d_MO_get_41 : decode b_MO_get 41 = .ok (.bipush (-2), 2) := by decide +kernel
theorem d_MO_get_43 : decode b_MO_get 43 = .ok (.ireturn, 1) := by decide +kernel
theorem d_MO_name_0 : decode b_MO_name 0 = .ok (.iload_n 1, 1) := by decide +kernel
theorem d_MO_name_1 : decode b_MO_name 1 = .ok (.ifCond .lt 11, 3) := by decide +kernel
theorem d_MO_name_4 : decode b_MO_name 4 = .ok (.iload_n 1, 1) := by decide +kernel
theorem d_MO_name_5 : decode b_MO_name 5 = .ok (.aload_n 0, 1) := by decide +kernel
theorem d_MO_name_6 : decode b_MO_name 6 = .ok (.getfield 20, 3) := by decide +kernel
theorem d_MO_name_9 : decode b_MO_name 9 = .ok (.if_icmp .lt 7, 3) := by decide +kernel
theorem d_MO_name_12 : decode b_MO_name 12 = .ok (.lconst 0, 1) := by decide +kernel
theorem d_MO_name_13 : decode b_MO_name 13 = .ok (.goto 9, 3) := by decide +kernel
theorem d_MO_name_16 : decode b_MO_name 16 = .ok (.aload_n 0, 1) := by decide +kernel
theorem d_MO_name_17 : decode b_MO_name 17 = .ok (.getfield 9, 3) := by decide +kernel
theorem d_MO_name_20 : decode b_MO_name 20 = .ok (.iload_n 1, 1) := by decide +kernel
theorem d_MO_name_21 : decode b_MO_name 21 = .ok (.laload, 1) := by decide +kernel
theorem d_MO_name_22 : decode b_MO_name 22 = .ok (.lreturn, 1) := by decide +kernel
theorem d_MO_index_0 : decode b_MO_index 0 = .ok (.iload_n 1, 1) := by decide +kernel
theorem d_MO_index_1 : decode b_MO_index 1 = .ok (.ifCond .lt 11, 3) := by decide +kernel
theorem d_MO_index_4 : decode b_MO_index 4 = .ok (.iload_n 1, 1) := by decide +kernel
theorem d_MO_index_5 : decode b_MO_index 5 = .ok (.aload_n 0, 1) := by decide +kernel
theorem d_MO_index_6 : decode b_MO_index 6 = .ok (.getfield 20, 3) := by decide +kernel
theorem d_MO_index_9 : decode b_MO_index 9 = .ok (.if_icmp .lt 8, 3) := by decide +kernel
theorem d_MO_index_12 : decode b_MO_index 12 = .ok (.bipush (-2), 2) := by decide +kernel
theorem d_MO_index_14 : decode b_MO_index 14 = .ok (.goto 9, 3) := by decide +kernel
theorem d_MO_index_17 : decode b_MO_index 17 = .ok (.aload_n 0, 1) := by decide +kernel
theorem d_MO_index_18 : decode b_MO_index 18 = .ok (.getfield 13, 3) := by decide +kernel
theorem d_MO_index_21 : decode b_MO_index 21 = .ok (.iload_n 1, 1) := by decide +kernel
theorem d_MO_index_22 : decode b_MO_index 22 = .ok (.iaload, 1) := by decide +kernel
theorem d_MO_index_23 : decode b_MO_index 23 = .ok (.ireturn, 1) := by decide +kernel
theorem d_MO_many_0 : decode b_MO_many 0 = .ok (.aload_n 0, 1) := by decide +kernel
theorem d_MO_many_1 : decode b_MO_many 1 = .ok (.getfield 20, 3) := by decide +kernel
theorem d_MO_many_4 : decode b_MO_many 4 = .ok (.ireturn, 1) := by decide +kernel
theorem d_MO_value_0 : decode b_MO_value 0 = .ok (.lconst 0, 1) := by decide +kernel
theorem d_MO_value_1 : decode b_MO_value 1 = .ok (.lstore_n 1, 1) := by decide +kernel
theorem d_MO_value_2 : decode b_MO_value 2 = .ok (.iconst 0, 1) := by decide +kernel
theorem d_MO_value_3 : decode b_MO_value 3 = .ok (.istore_n 3, 1) := by decide +kernel
theorem d_MO_value_4 : decode b_MO_value 4 = .ok (.iload_n 3, 1) := by decide +kernel
theorem d_MO_value_5 : decode b_MO_value 5 = .ok (.aload_n 0, 1) := by decide +kernel
theorem d_MO_value_6 : decode b_MO_value 6 = .ok (.getfield 20, 3) := by decide +kernel
theorem d_MO_value_9 : decode b_MO_value 9 = .ok (.if_icmp .ge 19, 3) := by decide +kernel
theorem d_MO_value_12 : decode b_MO_value 12 = .ok (.lload_n 1, 1) := by decide +kernel
theorem d_MO_value_13 : decode b_MO_value 13 = .ok (.aload_n 0, 1) := by decide +kernel
theorem d_MO_value_14 : decode b_MO_value 14 = .ok (.getfield 17, 3) := by decide +kernel
theorem d_MO_value_17 : decode b_MO_value 17 = .ok (.iload_n 3, 1) := by decide +kernel
theorem d_MO_value_18 : decode b_MO_value 18 = .ok (.iaload, 1) := by decide +kernel
theorem d_MO_value_19 : decode b_MO_value 19 = .ok (.i2l, 1) := by decide +kernel
theorem d_MO_value_20 : decode b_MO_value 20 = .ok (.ladd, 1) := by decide +kernel
theorem d_MO_value_21 : decode b_MO_value 21 = .ok (.lstore_n 1, 1) := by decide +kernel
theorem d_MO_value_22 : decode b_MO_value 22 = .ok (.iinc 3 1, 3) := by decide +kernel
theorem d_MO_value_25 : decode b_MO_value 25 = .ok (.goto (-21), 3) := by decide +kernel
theorem d_MO_value_28 : decode b_MO_value 28 = .ok (.lload_n 1, 1) := by decide +kernel
theorem d_MO_value_29 : decode b_MO_value 29 = .ok (.lreturn, 1) := by decide +kernel
end
section
/-! decode rows, printed by gen/gen_names.py -/
theorem d_CO_init_0 : decode b_CO_init 0 = .ok (.aload_n 0, 1) := by decide +kernel
theorem d_CO_init_1 : decode b_CO_init 1 = .ok (.invokespecial 3, 3) := by decide +kernel
theorem d_CO_init_4 : decode b_CO_init 4 = .ok (.aload_n 0, 1) := by decide +kernel
theorem d_CO_init_5 : decode b_CO_init 5 = .ok (.sipush 900, 3) := by decide +kernel
theorem d_CO_init_8 : decode b_CO_init 8 = .ok (.newarray .long, 2) := by decide +kernel
theorem d_CO_init_10 : decode b_CO_init 10 = .ok (.putfield 9, 3) := by decide +kernel
theorem d_CO_init_13 : decode b_CO_init 13 = .ok (.aload_n 0, 1) := by decide +kernel
theorem d_CO_init_14 : decode b_CO_init 14 = .ok (.sipush 900, 3) := by decide +kernel
theorem d_CO_init_17 : decode b_CO_init 17 = .ok (.newarray .int, 2) := by decide +kernel
theorem d_CO_init_19 : decode b_CO_init 19 = .ok (.putfield 15, 3) := by decide +kernel
theorem d_CO_init_22 : decode b_CO_init 22 = .ok (.aload_n 0, 1) := by decide +kernel
theorem d_CO_init_23 : decode b_CO_init 23 = .ok (.sipush 900, 3) := by decide +kernel
theorem d_CO_init_26 : decode b_CO_init 26 = .ok (.newarray .int, 2) := by decide +kernel
theorem d_CO_init_28 : decode b_CO_init 28 = .ok (.putfield 19, 3) := by decide +kernel
theorem d_CO_init_31 : decode b_CO_init 31 = .ok (.aload_n 0, 1) := by decide +kernel
theorem d_CO_init_32 : decode b_CO_init 32 = .ok (.sipush 900, 3) := by decide +kernel
theorem d_CO_init_35 : decode b_CO_init 35 = .ok (.newarray .int, 2) := by decide +kernel
theorem d_CO_init_37 : decode b_CO_init 37 = .ok (.putfield 22, 3) := by decide +kernel
theorem d_CO_init_40 : decode b_CO_init 40 = .ok (.aload_n 0, 1) := by decide +kernel
theorem d_CO_init_41 : decode b_CO_init 41 = .ok (.sipush 1024, 3) := by decide +kernel
theorem d_CO_init_44 : decode b_CO_init 44 = .ok (.newarray .int, 2) := by decide +kernel
theorem d_CO_init_46 : decode b_CO_init 46 = .ok (.putfield 25, 3) := by decide +kernel
theorem d_CO_init_49 : decode b_CO_init 49 = .ok (.aload_n 0, 1) := by decide +kernel
theorem d_CO_init_50 : decode b_CO_init 50 = .ok (.sipush 900, 3) := by decide +kernel
theorem d_CO_init_53 : decode b_CO_init 53 = .ok (.newarray .int, 2) := by decide +kernel
theorem d_CO_init_55 : decode b_CO_init 55 = .ok (.putfield 28, 3) := by decide +kernel
theorem d_CO_init_58 : decode b_CO_init 58 = .ok (.iconst 0, 1) := by decide +kernel
theorem d_CO_init_59 : decode b_CO_init 59 = .ok (.istore_n 1, 1) := by decide +kernel
theorem d_CO_init_60 : decode b_CO_init 60 = .ok (.iload_n 1, 1) := by decide +kernel
theorem d_CO_init_61 : decode b_CO_init 61 = .ok (.sipush 900, 3) := by decide +kernel
theorem d_CO_init_64 : decode b_CO_init 64 = .ok (.if_icmp .ge 20, 3) := by decide +kernel
theorem d_CO_init_67 : decode b_CO_init 67 = .ok (.aload_n 0, 1) := by decide +kernel
theorem d_CO_init_68 : decode b_CO_init 68 = .ok (.getfield 22, 3) := by decide +kernel
theorem d_CO_init_71 : decode b_CO_init 71 = .ok (.iload_n 1, 1) := by decide +kernel
theorem d_CO_init_72 : decode b_CO_init 72 = .ok (.sipush 899, 3) := by decide +kernel
theorem d_CO_init_75 : decode b_CO_init 75 = .ok (.iload_n 1, 1) := by decide +kernel
theorem d_CO_init_76 : decode b_CO_init 76 = .ok (.isub, 1) := by decide +kernel
theorem d_CO_init_77 : decode b_CO_init 77 = .ok (.iastore, 1) := by decide +kernel
theorem d_CO_init_78 : decode b_CO_init 78 = .ok (.iinc 1 1, 3) := by decide +kernel
theorem d_CO_init_81 : decode b_CO_init 81 = .ok (.goto (-21), 3) := by decide +kernel
theorem d_CO_init_84 : decode b_CO_init 84 = .ok (.aload_n 0, 1) := by decide +kernel
theorem d_CO_init_85 : decode b_CO_init 85 = .ok (.sipush 900, 3) := by decide +kernel
theorem d_CO_init_88 : decode b_CO_init 88 = .ok (.putfield 31, 3) := by decide +kernel
theorem d_CO_init_91 : decode b_CO_init 91 = .ok (.return_, 1) := by decide +kernel
theorem d_CO_place_0 : decode b_CO_place 0 = .ok (.lload_n 0, 1) := by decide +kernel
theorem d_CO_place_1 : decode b_CO_place 1 = .ok (.lload_n 0, 1) := by decide +kernel
theorem d_CO_place_2 : decode b_CO_place 2 = .ok (.bipush 32, 2) := by decide +kernel
theorem d_CO_place_4 : decode b_CO_place 4 = .ok (.lushr, 1) := by decide +kernel
theorem d_CO_place_5 : decode b_CO_place 5 = .ok (.lxor, 1) := by decide +kernel
theorem d_CO_place_6 : decode b_CO_place 6 = .ok (.l2i, 1) := by decide +kernel
theorem d_CO_place_7 : decode b_CO_place 7 = .ok (.istore_n 3, 1) := by decide +kernel
theorem d_CO_place_8 : decode b_CO_place 8 = .ok (.iload_n 3, 1) := by decide +kernel
theorem d_CO_place_9 : decode b_CO_place 9 = .ok (.bipush 31, 2) := by decide +kernel
theorem d_CO_place_11 : decode b_CO_place 11 = .ok (.imul, 1) := by decide +kernel
theorem d_CO_place_12 : decode b_CO_place 12 = .ok (.iload_n 2, 1) := by decide +kernel
theorem d_CO_place_13 : decode b_CO_place 13 = .ok (.ldc 35, 2) := by decide +kernel
theorem d_CO_place_15 : decode b_CO_place 15 = .ok (.imul, 1) := by decide +kernel
theorem d_CO_place_16 : decode b_CO_place 16 = .ok (.iadd, 1) := by decide +kernel
theorem d_CO_place_17 : decode b_CO_place 17 = .ok (.bipush 8, 2) := by decide +kernel
theorem d_CO_place_19 : decode b_CO_place 19 = .ok (.iushr, 1) := by decide +kernel
theorem d_CO_place_20 : decode b_CO_place 20 = .ok (.sipush 1023, 3) := by decide +kernel
theorem d_CO_place_23 : decode b_CO_place 23 = .ok (.iand, 1) := by decide +kernel
theorem d_CO_place_24 : decode b_CO_place 24 = .ok (.ireturn, 1) := by decide +kernel
theorem d_CO_isIt_0 : decode b_CO_isIt 0 = .ok (.aload_n 0, 1) := by decide +kernel
theorem d_CO_isIt_1 : decode b_CO_isIt 1 = .ok (.getfield 15, 3) := by decide +kernel
theorem d_CO_isIt_4 : decode b_CO_isIt 4 = .ok (.iload_n 1, 1) := by decide +kernel
theorem d_CO_isIt_5 : decode b_CO_isIt 5 = .ok (.iaload, 1) := by decide +kernel
theorem d_CO_isIt_6 : decode b_CO_isIt 6 = .ok (.iload 4, 2) := by decide +kernel
theorem d_CO_isIt_8 : decode b_CO_isIt 8 = .ok (.if_icmp .ne 18, 3) := by decide +kernel
theorem d_CO_isIt_11 : decode b_CO_isIt 11 = .ok (.aload_n 0, 1) := by decide +kernel
theorem d_CO_isIt_12 : decode b_CO_isIt 12 = .ok (.getfield 9, 3) := by decide +kernel
theorem d_CO_isIt_15 : decode b_CO_isIt 15 = .ok (.iload_n 1, 1) := by decide +kernel
theorem d_CO_isIt_16 : decode b_CO_isIt 16 = .ok (.laload, 1) := by decide +kernel
theorem d_CO_isIt_17 : decode b_CO_isIt 17 = .ok (.lload_n 2, 1) := by decide +kernel
theorem d_CO_isIt_18 : decode b_CO_isIt 18 = .ok (.lcmp, 1) := by decide +kernel
theorem d_CO_isIt_19 : decode b_CO_isIt 19 = .ok (.ifCond .ne 7, 3) := by decide +kernel
theorem d_CO_isIt_22 : decode b_CO_isIt 22 = .ok (.iconst 1, 1) := by decide +kernel
theorem d_CO_isIt_23 : decode b_CO_isIt 23 = .ok (.goto 4, 3) := by decide +kernel
theorem d_CO_isIt_26 : decode b_CO_isIt 26 = .ok (.iconst 0, 1) := by decide +kernel
theorem d_CO_isIt_27 : decode b_CO_isIt 27 = .ok (.ireturn, 1) := by decide +kernel
theorem d_CO_slot_0 : decode b_CO_slot 0 = .ok (.lload_n 1, 1) := by decide +kernel
theorem d_CO_slot_1 : decode b_CO_slot 1 = .ok (.iload_n 3, 1) := by decide +kernel
theorem d_CO_slot_2 : decode b_CO_slot 2 = .ok (.invokestatic 36, 3) := by decide +kernel
theorem d_CO_slot_5 : decode b_CO_slot 5 = .ok (.istore 4, 2) := by decide +kernel
theorem d_CO_slot_7 : decode b_CO_slot 7 = .ok (.aload_n 0, 1) := by decide +kernel
theorem d_CO_slot_8 : decode b_CO_slot 8 = .ok (.getfield 25, 3) := by decide +kernel
theorem d_CO_slot_11 : decode b_CO_slot 11 = .ok (.iload 4, 2) := by decide +kernel
theorem d_CO_slot_13 : decode b_CO_slot 13 = .ok (.iaload, 1) := by decide +kernel
theorem d_CO_slot_14 : decode b_CO_slot 14 = .ok (.ifCond .eq 34, 3) := by decide +kernel
theorem d_CO_slot_17 : decode b_CO_slot 17 = .ok (.aload_n 0, 1) := by decide +kernel
theorem d_CO_slot_18 : decode b_CO_slot 18 = .ok (.aload_n 0, 1) := by decide +kernel
theorem d_CO_slot_19 : decode b_CO_slot 19 = .ok (.getfield 25, 3) := by decide +kernel
theorem d_CO_slot_22 : decode b_CO_slot 22 = .ok (.iload 4, 2) := by decide +kernel
theorem d_CO_slot_24 : decode b_CO_slot 24 = .ok (.iaload, 1) := by decide +kernel
theorem d_CO_slot_25 : decode b_CO_slot 25 = .ok (.iconst 1, 1) := by decide +kernel
theorem d_CO_slot_26 : decode b_CO_slot 26 = .ok (.isub, 1) := by decide +kernel
theorem d_CO_slot_27 : decode b_CO_slot 27 = .ok (.lload_n 1, 1) := by decide +kernel
theorem d_CO_slot_28 : decode b_CO_slot 28 = .ok (.iload_n 3, 1) := by decide +kernel
theorem d_CO_slot_29 : decode b_CO_slot 29 = .ok (.invokevirtual 40, 3) := by decide +kernel
theorem d_CO_slot_32 : decode b_CO_slot 32 = .ok (.ifCond .ne 16, 3) := by decide +kernel
theorem d_CO_slot_35 : decode b_CO_slot 35 = .ok (.iload 4, 2) := by decide +kernel
theorem d_CO_slot_37 : decode b_CO_slot 37 = .ok (.iconst 1, 1) := by decide +kernel
theorem d_CO_slot_38 : decode b_CO_slot 38 = .ok (.iadd, 1) := by decide +kernel
theorem d_CO_slot_39 : decode b_CO_slot 39 = .ok (.sipush 1023, 3) := by decide +kernel
theorem d_CO_slot_42 : decode b_CO_slot 42 = .ok (.iand, 1) := by decide +kernel
theorem d_CO_slot_43 : decode b_CO_slot 43 = .ok (.istore 4, 2) := by decide +kernel
theorem d_CO_slot_45 : decode b_CO_slot 45 = .ok (.goto (-38), 3) := by decide +kernel
theorem d_CO_slot_48 : decode b_CO_slot 48 = .ok (.iload 4, 2) := by decide +kernel
theorem d_CO_slot_50 : decode b_CO_slot 50 = .ok (.ireturn, 1) := by decide +kernel
theorem d_CO_get_0 : decode b_CO_get 0 = .ok (.aload_n 0, 1) := by decide +kernel
theorem d_CO_get_1 : decode b_CO_get 1 = .ok (.getfield 25, 3) := by decide +kernel
theorem d_CO_get_4 : decode b_CO_get 4 = .ok (.aload_n 0, 1) := by decide +kernel
theorem d_CO_get_5 : decode b_CO_get 5 = .ok (.lload_n 1, 1) := by decide +kernel
theorem d_CO_get_6 : decode b_CO_get 6 = .ok (.iload_n 3, 1) := by decide +kernel
theorem d_CO_get_7 : decode b_CO_get 7 = .ok (.invokevirtual 44, 3) := by decide +kernel
theorem d_CO_get_10 : decode b_CO_get 10 = .ok (.iaload, 1) := by decide +kernel
theorem d_CO_get_11 : decode b_CO_get 11 = .ok (.iconst 1, 1) := by decide +kernel
theorem d_CO_get_12 : decode b_CO_get 12 = .ok (.isub, 1) := by decide +kernel
theorem d_CO_get_13 : decode b_CO_get 13 = .ok (.ireturn, 1) := by decide +kernel
theorem d_CO_add_0 : decode b_CO_add 0 = .ok (.aload_n 0, 1) := by decide +kernel
theorem d_CO_add_1 : decode b_CO_add 1 = .ok (.dup, 1) := by decide +kernel
theorem d_CO_add_2 : decode b_CO_add 2 = .ok (.getfield 31, 3) := by decide +kernel
theorem d_CO_add_5 : decode b_CO_add 5 = .ok (.iconst 1, 1) := by decide +kernel
theorem d_CO_add_6 : decode b_CO_add 6 = .ok (.isub, 1) := by decide +kernel
theorem d_CO_add_7 : decode b_CO_add 7 = .ok (.putfield 31, 3) := by decide +kernel
theorem d_CO_add_10 : decode b_CO_add 10 = .ok (.aload_n 0, 1) := by decide +kernel
theorem d_CO_add_11 : decode b_CO_add 11 = .ok (.getfield 22, 3) := by decide +kernel
theorem d_CO_add_14 : decode b_CO_add 14 = .ok (.aload_n 0, 1) := by decide +kernel
theorem d_CO_add_15 : decode b_CO_add 15 = .ok (.getfield 31, 3) := by decide +kernel
theorem d_CO_add_18 : decode b_CO_add 18 = .ok (.iaload, 1) := by decide +kernel
theorem d_CO_add_19 : decode b_CO_add 19 = .ok (.istore 5, 2) := by decide +kernel
theorem d_CO_add_21 : decode b_CO_add 21 = .ok (.aload_n 0, 1) := by decide +kernel
theorem d_CO_add_22 : decode b_CO_add 22 = .ok (.getfield 9, 3) := by decide +kernel
theorem d_CO_add_25 : decode b_CO_add 25 = .ok (.iload 5, 2) := by decide +kernel
theorem d_CO_add_27 : decode b_CO_add 27 = .ok (.lload_n 1, 1) := by decide +kernel
theorem d_CO_add_28 : decode b_CO_add 28 = .ok (.lastore, 1) := by decide +kernel
theorem d_CO_add_29 : decode b_CO_add 29 = .ok (.aload_n 0, 1) := by decide +kernel
theorem d_CO_add_30 : decode b_CO_add 30 = .ok (.getfield 15, 3) := by decide +kernel
theorem d_CO_add_33 : decode b_CO_add 33 = .ok (.iload 5, 2) := by decide +kernel
theorem d_CO_add_35 : decode b_CO_add 35 = .ok (.iload_n 3, 1) := by decide +kernel
theorem d_CO_add_36 : decode b_CO_add 36 = .ok (.iastore, 1) := by decide +kernel
theorem d_CO_add_37 : decode b_CO_add 37 = .ok (.aload_n 0, 1) := by decide +kernel
theorem d_CO_add_38 : decode b_CO_add 38 = .ok (.getfield 19, 3) := by decide +kernel
theorem d_CO_add_41 : decode b_CO_add 41 = .ok (.iload 5, 2) := by decide +kernel
theorem d_CO_add_43 : decode b_CO_add 43 = .ok (.iload 4, 2) := by decide +kernel
theorem d_CO_add_45 : decode b_CO_add 45 = .ok (.iastore, 1) := by decide +kernel
theorem d_CO_add_46 : decode b_CO_add 46 = .ok (.aload_n 0, 1) := by decide +kernel
theorem d_CO_add_47 : decode b_CO_add 47 = .ok (.getfield 25, 3) := by decide +kernel
theorem d_CO_add_50 : decode b_CO_add 50 = .ok (.aload_n 0, 1) := by decide +kernel
theorem d_CO_add_51 : decode b_CO_add 51 = .ok (.lload_n 1, 1) := by decide +kernel
theorem d_CO_add_52 : decode b_CO_add 52 = .ok (.iload_n 3, 1) := by decide +kernel
theorem d_CO_add_53 : decode b_CO_add 53 = .ok (.invokevirtual 44, 3) := by decide +kernel
theorem d_CO_add_56 : decode b_CO_add 56 = .ok (.iload 5, 2) := by decide +kernel
theorem d_CO_add_58 : decode b_CO_add 58 = .ok (.iconst 1, 1) := by decide +kernel
theorem d_CO_add_59 : decode b_CO_add 59 = .ok (.iadd, 1) := by decide +kernel
theorem d_CO_add_60 : decode b_CO_add 60 = .ok (.iastore, 1) := by decide +kernel
theorem d_CO_add_61 : decode b_CO_add 61 = .ok (.aload_n 0, 1) := by decide +kernel
theorem d_CO_add_62 : decode b_CO_add 62 = .ok (.dup, 1) := by decide +kernel
theorem d_CO_add_63 : decode b_CO_add 63 = .ok (.getfield 47, 3) := by decide +kernel
theorem d_CO_add_66 : decode b_CO_add 66 = .ok (.iconst 1, 1) := by decide +kernel
theorem d_CO_add_67 : decode b_CO_add 67 = .ok (.iadd, 1) := by decide +kernel
theorem d_CO_add_68 : decode b_CO_add 68 = .ok (.putfield 47, 3) := by decide +kernel
theorem d_CO_add_71 : decode b_CO_add 71 = .ok (.aload_n 0, 1) := by decide +kernel
theorem d_CO_add_72 : decode b_CO_add 72 = .ok (.dup, 1) := by decide +kernel
theorem d_CO_add_73 : decode b_CO_add 73 = .ok (.getfield 50, 3) := by decide +kernel
theorem d_CO_add_76 : decode b_CO_add 76 = .ok (.iload 4, 2) := by decide +kernel
theorem d_CO_add_78 : decode b_CO_add 78 = .ok (.i2l, 1) := by decide +kernel
theorem d_CO_add_79 : decode b_CO_add 79 = .ok (.ladd, 1) := by decide +kernel
theorem d_CO_add_80 : decode b_CO_add 80 = .ok (.putfield 50, 3) := by decide +kernel
theorem d_CO_add_83 : decode b_CO_add 83 = .ok (.aload_n 0, 1) := by decide +kernel
theorem d_CO_add_84 : decode b_CO_add 84 = .ok (.iconst 0, 1) := by decide +kernel
theorem d_CO_add_85 : decode b_CO_add 85 = .ok (.putfield 54, 3) := by decide +kernel
theorem d_CO_add_88 : decode b_CO_add 88 = .ok (.return_, 1) := by decide +kernel
theorem d_CO_remove_0 : decode b_CO_remove 0 = .ok (.aload_n 0, 1) := by decide +kernel
theorem d_CO_remove_1 : decode b_CO_remove 1 = .ok (.aload_n 0, 1) := by decide +kernel
theorem d_CO_remove_2 : decode b_CO_remove 2 = .ok (.getfield 9, 3) := by decide +kernel
theorem d_CO_remove_5 : decode b_CO_remove 5 = .ok (.iload_n 1, 1) := by decide +kernel
theorem d_CO_remove_6 : decode b_CO_remove 6 = .ok (.laload, 1) := by decide +kernel
theorem d_CO_remove_7 : decode b_CO_remove 7 = .ok (.aload_n 0, 1) := by decide +kernel
theorem d_CO_remove_8 : decode b_CO_remove 8 = .ok (.getfield 15, 3) := by decide +kernel
theorem d_CO_remove_11 : decode b_CO_remove 11 = .ok (.iload_n 1, 1) := by decide +kernel
theorem d_CO_remove_12 : decode b_CO_remove 12 = .ok (.iaload, 1) := by decide +kernel
theorem d_CO_remove_13 : decode b_CO_remove 13 = .ok (.invokevirtual 44, 3) := by decide +kernel
theorem d_CO_remove_16 : decode b_CO_remove 16 = .ok (.istore_n 2, 1) := by decide +kernel
theorem d_CO_remove_17 : decode b_CO_remove 17 = .ok (.iload_n 2, 1) := by decide +kernel
theorem d_CO_remove_18 : decode b_CO_remove 18 = .ok (.iconst 1, 1) := by decide +kernel
theorem d_CO_remove_19 : decode b_CO_remove 19 = .ok (.iadd, 1) := by decide +kernel
theorem d_CO_remove_20 : decode b_CO_remove 20 = .ok (.sipush 1023, 3) := by decide +kernel
theorem d_CO_remove_23 : decode b_CO_remove 23 = .ok (.iand, 1) := by decide +kernel
theorem d_CO_remove_24 : decode b_CO_remove 24 = .ok (.istore_n 3, 1) := by decide +kernel
theorem d_CO_remove_25 : decode b_CO_remove 25 = .ok (.aload_n 0, 1) := by decide +kernel
theorem d_CO_remove_26 : decode b_CO_remove 26 = .ok (.getfield 25, 3) := by decide +kernel
theorem d_CO_remove_29 : decode b_CO_remove 29 = .ok (.iload_n 3, 1) := by decide +kernel
theorem d_CO_remove_30 : decode b_CO_remove 30 = .ok (.iaload, 1) := by decide +kernel
theorem d_CO_remove_31 : decode b_CO_remove 31 = .ok (.ifCond .eq 108, 3) := by decide +kernel
theorem d_CO_remove_34 : decode b_CO_remove 34 = .ok (.aload_n 0, 1) := by decide +kernel
theorem d_CO_remove_35 : decode b_CO_remove 35 = .ok (.getfield 9, 3) := by decide +kernel
theorem d_CO_remove_38 : decode b_CO_remove 38 = .ok (.aload_n 0, 1) := by decide +kernel
theorem d_CO_remove_39 : decode b_CO_remove 39 = .ok (.getfield 25, 3) := by decide +kernel
theorem d_CO_remove_42 : decode b_CO_remove 42 = .ok (.iload_n 3, 1) := by decide +kernel
theorem d_CO_remove_43 : decode b_CO_remove 43 = .ok (.iaload, 1) := by decide +kernel
theorem d_CO_remove_44 : decode b_CO_remove 44 = .ok (.iconst 1, 1) := by decide +kernel
theorem d_CO_remove_45 : decode b_CO_remove 45 = .ok (.isub, 1) := by decide +kernel
theorem d_CO_remove_46 : decode b_CO_remove 46 = .ok (.laload, 1) := by decide +kernel
theorem d_CO_remove_47 : decode b_CO_remove 47 = .ok (.aload_n 0, 1) := by decide +kernel
theorem d_CO_remove_48 : decode b_CO_remove 48 = .ok (.getfield 15, 3) := by decide +kernel
theorem d_CO_remove_51 : decode b_CO_remove 51 = .ok (.aload_n 0, 1) := by decide +kernel
theorem d_CO_remove_52 : decode b_CO_remove 52 = .ok (.getfield 25, 3) := by decide +kernel
theorem d_CO_remove_55 : decode b_CO_remove 55 = .ok (.iload_n 3, 1) := by decide +kernel
theorem d_CO_remove_56 : decode b_CO_remove 56 = .ok (.iaload, 1) := by decide +kernel
theorem d_CO_remove_57 : decode b_CO_remove 57 = .ok (.iconst 1, 1) := by decide +kernel
theorem d_CO_remove_58 : decode b_CO_remove 58 = .ok (.isub, 1) := by decide +kernel
theorem d_CO_remove_59 : decode b_CO_remove 59 = .ok (.iaload, 1) := by decide +kernel
theorem d_CO_remove_60 : decode b_CO_remove 60 = .ok (.invokestatic 36, 3) := by decide +kernel
theorem d_CO_remove_63 : decode b_CO_remove 63 = .ok (.istore 4, 2) := by decide +kernel
theorem d_CO_remove_65 : decode b_CO_remove 65 = .ok (.iload_n 2, 1) := by decide +kernel
theorem d_CO_remove_66 : decode b_CO_remove 66 = .ok (.iload_n 3, 1) := by decide +kernel
theorem d_CO_remove_67 : decode b_CO_remove 67 = .ok (.if_icmp .gt 23, 3) := by decide +kernel
theorem d_CO_remove_70 : decode b_CO_remove 70 = .ok (.iload_n 2, 1) := by decide +kernel
theorem d_CO_remove_71 : decode b_CO_remove 71 = .ok (.iload 4, 2) := by decide +kernel
theorem d_CO_remove_73 : decode b_CO_remove 73 = .ok (.if_icmp .ge 13, 3) := by decide +kernel
theorem d_CO_remove_76 : decode b_CO_remove 76 = .ok (.iload 4, 2) := by decide +kernel
theorem d_CO_remove_78 : decode b_CO_remove 78 = .ok (.iload_n 3, 1) := by decide +kernel
theorem d_CO_remove_79 : decode b_CO_remove 79 = .ok (.if_icmp .gt 7, 3) := by decide +kernel
theorem d_CO_remove_82 : decode b_CO_remove 82 = .ok (.iconst 1, 1) := by decide +kernel
theorem d_CO_remove_83 : decode b_CO_remove 83 = .ok (.goto 24, 3) := by decide +kernel
theorem d_CO_remove_86 : decode b_CO_remove 86 = .ok (.iconst 0, 1) := by decide +kernel
theorem d_CO_remove_87 : decode b_CO_remove 87 = .ok (.goto 20, 3) := by decide +kernel
theorem d_CO_remove_90 : decode b_CO_remove 90 = .ok (.iload_n 2, 1) := by decide +kernel
theorem d_CO_remove_91 : decode b_CO_remove 91 = .ok (.iload 4, 2) := by decide +kernel
theorem d_CO_remove_93 : decode b_CO_remove 93 = .ok (.if_icmp .lt 9, 3) := by decide +kernel
theorem d_CO_remove_96 : decode b_CO_remove 96 = .ok (.iload 4, 2) := by decide +kernel
theorem d_CO_remove_98 : decode b_CO_remove 98 = .ok (.iload_n 3, 1) := by decide +kernel
theorem d_CO_remove_99 : decode b_CO_remove 99 = .ok (.if_icmp .gt 7, 3) := by decide +kernel
theorem d_CO_remove_102 : decode b_CO_remove 102 = .ok (.iconst 1, 1) := by decide +kernel
theorem d_CO_remove_103 : decode b_CO_remove 103 = .ok (.goto 4, 3) := by decide +kernel
theorem d_CO_remove_106 : decode b_CO_remove 106 = .ok (.iconst 0, 1) := by decide +kernel
theorem d_CO_remove_107 : decode b_CO_remove 107 = .ok (.istore 5, 2) := by decide +kernel
theorem d_CO_remove_109 : decode b_CO_remove 109 = .ok (.iload 5, 2) := by decide +kernel
theorem d_CO_remove_111 : decode b_CO_remove 111 = .ok (.ifCond .ne 17, 3) := by decide +kernel
theorem d_CO_remove_114 : decode b_CO_remove 114 = .ok (.aload_n 0, 1) := by decide +kernel
theorem d_CO_remove_115 : decode b_CO_remove 115 = .ok (.getfield 25, 3) := by decide +kernel
theorem d_CO_remove_118 : decode b_CO_remove 118 = .ok (.iload_n 2, 1) := by decide +kernel
theorem d_CO_remove_119 : decode b_CO_remove 119 = .ok (.aload_n 0, 1) := by decide +kernel
theorem d_CO_remove_120 : decode b_CO_remove 120 = .ok (.getfield 25, 3) := by decide +kernel
theorem d_CO_remove_123 : decode b_CO_remove 123 = .ok (.iload_n 3, 1) := by decide +kernel
theorem d_CO_remove_124 : decode b_CO_remove 124 = .ok (.iaload, 1) := by decide +kernel
theorem d_CO_remove_125 : decode b_CO_remove 125 = .ok (.iastore, 1) := by decide +kernel
theorem d_CO_remove_126 : decode b_CO_remove 126 = .ok (.iload_n 3, 1) := by decide +kernel
theorem d_CO_remove_127 : decode b_CO_remove 127 = .ok (.istore_n 2, 1) := by decide +kernel
theorem d_CO_remove_128 : decode b_CO_remove 128 = .ok (.iload_n 3, 1) := by decide +kernel
theorem d_CO_remove_129 : decode b_CO_remove 129 = .ok (.iconst 1, 1) := by decide +kernel
theorem d_CO_remove_130 : decode b_CO_remove 130 = .ok (.iadd, 1) := by decide +kernel
theorem d_CO_remove_131 : decode b_CO_remove 131 = .ok (.sipush 1023, 3) := by decide +kernel
theorem d_CO_remove_134 : decode b_CO_remove 134 = .ok (.iand, 1) := by decide +kernel
theorem d_CO_remove_135 : decode b_CO_remove 135 = .ok (.istore_n 3, 1) := by decide +kernel
theorem d_CO_remove_136 : decode b_CO_remove 136 = .ok (.goto (-111), 3) := by decide +kernel
theorem d_CO_remove_139 : decode b_CO_remove 139 = .ok (.aload_n 0, 1) := by decide +kernel
theorem d_CO_remove_140 : decode b_CO_remove 140 = .ok (.getfield 25, 3) := by decide +kernel
theorem d_CO_remove_143 : decode b_CO_remove 143 = .ok (.iload_n 2, 1) := by decide +kernel
theorem d_CO_remove_144 : decode b_CO_remove 144 = .ok (.iconst 0, 1) := by decide +kernel
theorem d_CO_remove_145 : decode b_CO_remove 145 = .ok (.iastore, 1) := by decide +kernel
theorem d_CO_remove_146 : decode b_CO_remove 146 = .ok (.aload_n 0, 1) := by decide +kernel
theorem d_CO_remove_147 : decode b_CO_remove 147 = .ok (.getfield 22, 3) := by decide +kernel
theorem d_CO_remove_150 : decode b_CO_remove 150 = .ok (.aload_n 0, 1) := by decide +kernel
theorem d_CO_remove_151 : decode b_CO_remove 151 = .ok (.getfield 31, 3) := by decide +kernel
theorem d_CO_remove_154 : decode b_CO_remove 154 = .ok (.iload_n 1, 1) := by decide +kernel
theorem d_CO_remove_155 : decode b_CO_remove 155 = .ok (.iastore, 1) := by decide +kernel
theorem d_CO_remove_156 : decode b_CO_remove 156 = .ok (.aload_n 0, 1) := by decide +kernel
theorem d_CO_remove_157 : decode b_CO_remove 157 = .ok (.dup, 1) := by decide +kernel
theorem d_CO_remove_158 : decode b_CO_remove 158 = .ok (.getfield 31, 3) := by decide +kernel
theorem d_CO_remove_161 : decode b_CO_remove 161 = .ok (.iconst 1, 1) := by decide +kernel
theorem d_CO_remove_162 : decode b_CO_remove 162 = .ok (.iadd, 1) := by decide +kernel
theorem d_CO_remove_163 : decode b_CO_remove 163 = .ok (.putfield 31, 3) := by decide +kernel
theorem d_CO_remove_166 : decode b_CO_remove 166 = .ok (.aload_n 0, 1) := by decide +kernel
theorem d_CO_remove_167 : decode b_CO_remove 167 = .ok (.dup, 1) := by decide +kernel
theorem d_CO_remove_168 : decode b_CO_remove 168 = .ok (.getfield 47, 3) := by decide +kernel
theorem d_CO_remove_171 : decode b_CO_remove 171 = .ok (.iconst 1, 1) := by decide +kernel
theorem d_CO_remove_172 : decode b_CO_remove 172 = .ok (.isub, 1) := by decide +kernel
theorem d_CO_remove_173 : decode b_CO_remove 173 = .ok (.putfield 47, 3) := by decide +kernel
theorem d_CO_remove_176 : decode b_CO_remove 176 = .ok (.aload_n 0, 1) := by decide +kernel
theorem d_CO_remove_177 : decode b_CO_remove 177 = .ok (.dup, 1) := by decide +kernel
theorem d_CO_remove_178 : decode b_CO_remove 178 = .ok (.getfield 50, 3) := by decide +kernel
theorem d_CO_remove_181 : decode b_CO_remove 181 = .ok (.aload_n 0, 1) := by decide +kernel
theorem d_CO_remove_182 : decode b_CO_remove 182 = .ok (.getfield 19, 3) := by decide +kernel
theorem d_CO_remove_185 : decode b_CO_remove 185 = .ok (.iload_n 1, 1) := by decide +kernel
theorem d_CO_remove_186 : decode b_CO_remove 186 = .ok (.iaload, 1) := by decide +kernel
theorem d_CO_remove_187 : decode b_CO_remove 187 = .ok (.i2l, 1) := by decide +kernel
theorem d_CO_remove_188 : decode b_CO_remove 188 = .ok (.lsub, 1) := by decide +kernel
theorem d_CO_remove_189 : decode b_CO_remove 189 = .ok (.putfield 50, 3) := by decide +kernel
theorem d_CO_remove_192 : decode b_CO_remove 192 = .ok (.aload_n 0, 1) := by decide +kernel
theorem d_CO_remove_193 : decode b_CO_remove 193 = .ok (.iconst 0, 1) := by decide +kernel
theorem d_CO_remove_194 : decode b_CO_remove 194 = .ok (.putfield 54, 3) := by decide +kernel
theorem d_CO_remove_197 : decode b_CO_remove 197 = .ok (.return_, 1) := by decide +kernel
theorem d_CO_compare_0 : decode b_CO_compare 0 = .ok (.aload_n 0, 1) := by decide +kernel
theorem d_CO_compare_1 : decode b_CO_compare 1 = .ok (.getfield 9, 3) := by decide +kernel
theorem d_CO_compare_4 : decode b_CO_compare 4 = .ok (.iload_n 1, 1) := by decide +kernel
theorem d_CO_compare_5 : decode b_CO_compare 5 = .ok (.laload, 1) := by decide +kernel
theorem d_CO_compare_6 : decode b_CO_compare 6 = .ok (.aload_n 0, 1) := by decide +kernel
theorem d_CO_compare_7 : decode b_CO_compare 7 = .ok (.getfield 9, 3) := by decide +kernel
theorem d_CO_compare_10 : decode b_CO_compare 10 = .ok (.iload_n 2, 1) := by decide +kernel
theorem d_CO_compare_11 : decode b_CO_compare 11 = .ok (.laload, 1) := by decide +kernel
theorem d_CO_compare_12 : decode b_CO_compare 12 = .ok (.lcmp, 1) := by decide +kernel
theorem d_CO_compare_13 : decode b_CO_compare 13 = .ok (.ifCond .eq 25, 3) := by decide +kernel
theorem d_CO_compare_16 : decode b_CO_compare 16 = .ok (.aload_n 0, 1) := by decide +kernel
theorem d_CO_compare_17 : decode b_CO_compare 17 = .ok (.getfield 9, 3) := by decide +kernel
theorem d_CO_compare_20 : decode b_CO_compare 20 = .ok (.iload_n 1, 1) := by decide +kernel
theorem d_CO_compare_21 : decode b_CO_compare 21 = .ok (.laload, 1) := by decide +kernel
theorem d_CO_compare_22 : decode b_CO_compare 22 = .ok (.aload_n 0, 1) := by decide +kernel
theorem d_CO_compare_23 : decode b_CO_compare 23 = .ok (.getfield 9, 3) := by decide +kernel
theorem d_CO_compare_26 : decode b_CO_compare 26 = .ok (.iload_n 2, 1) := by decide +kernel
theorem d_CO_compare_27 : decode b_CO_compare 27 = .ok (.laload, 1) := by decide +kernel
theorem d_CO_compare_28 : decode b_CO_compare 28 = .ok (.lcmp, 1) := by decide +kernel
theorem d_CO_compare_29 : decode b_CO_compare 29 = .ok (.ifCond .ge 7, 3) := by decide +kernel
theorem d_CO_compare_32 : decode b_CO_compare 32 = .ok (.iconst (-1), 1) := by decide +kernel
theorem d_CO_compare_33 : decode b_CO_compare 33 = .ok (.goto 4, 3) := by decide +kernel
theorem d_CO_compare_36 : decode b_CO_compare 36 = .ok (.iconst 1, 1) := by decide +kernel
theorem d_CO_compare_37 : decode b_CO_compare 37 = .ok (.ireturn, 1) := by decide +kernel
theorem d_CO_compare_38 : decode b_CO_compare 38 = .ok (.aload_n 0, 1) := by decide +kernel
theorem d_CO_compare_39 : decode b_CO_compare 39 = .ok (.getfield 15, 3) := by decide +kernel
theorem d_CO_compare_42 : decode b_CO_compare 42 = .ok (.iload_n 1, 1) := by decide +kernel
theorem d_CO_compare_43 : decode b_CO_compare 43 = .ok (.iaload, 1) := by decide +kernel
theorem d_CO_compare_44 : decode b_CO_compare 44 = .ok (.aload_n 0, 1) := by decide +kernel
theorem d_CO_compare_45 : decode b_CO_compare 45 = .ok (.getfield 15, 3) := by decide +kernel
theorem d_CO_compare_48 : decode b_CO_compare 48 = .ok (.iload_n 2, 1) := by decide +kernel
theorem d_CO_compare_49 : decode b_CO_compare 49 = .ok (.iaload, 1) := by decide +kernel
theorem d_CO_compare_50 : decode b_CO_compare 50 = .ok (.isub, 1) := by decide +kernel
theorem d_CO_compare_51 : decode b_CO_compare 51 = .ok (.ireturn, 1) := by decide +kernel
theorem d_CO_sink_0 : decode b_CO_sink 0 = .ok (.iload_n 1, 1) := by decide +kernel
theorem d_CO_sink_1 : decode b_CO_sink 1 = .ok (.istore_n 3, 1) := by decide +kernel
theorem d_CO_sink_2 : decode b_CO_sink 2 = .ok (.iconst 2, 1) := by decide +kernel
theorem d_CO_sink_3 : decode b_CO_sink 3 = .ok (.iload_n 3, 1) := by decide +kernel
theorem d_CO_sink_4 : decode b_CO_sink 4 = .ok (.imul, 1) := by decide +kernel
theorem d_CO_sink_5 : decode b_CO_sink 5 = .ok (.iconst 1, 1) := by decide +kernel
theorem d_CO_sink_6 : decode b_CO_sink 6 = .ok (.iadd, 1) := by decide +kernel
theorem d_CO_sink_7 : decode b_CO_sink 7 = .ok (.iload_n 2, 1) := by decide +kernel
theorem d_CO_sink_8 : decode b_CO_sink 8 = .ok (.if_icmp .ge 101, 3) := by decide +kernel
theorem d_CO_sink_11 : decode b_CO_sink 11 = .ok (.iconst 2, 1) := by decide +kernel
theorem d_CO_sink_12 : decode b_CO_sink 12 = .ok (.iload_n 3, 1) := by decide +kernel
theorem d_CO_sink_13 : decode b_CO_sink 13 = .ok (.imul, 1) := by decide +kernel
theorem d_CO_sink_14 : decode b_CO_sink 14 = .ok (.iconst 1, 1) := by decide +kernel
theorem d_CO_sink_15 : decode b_CO_sink 15 = .ok (.iadd, 1) := by decide +kernel
theorem d_CO_sink_16 : decode b_CO_sink 16 = .ok (.istore 4, 2) := by decide +kernel
theorem d_CO_sink_18 : decode b_CO_sink 18 = .ok (.iload 4, 2) := by decide +kernel
theorem d_CO_sink_20 : decode b_CO_sink 20 = .ok (.iconst 1, 1) := by decide +kernel
theorem d_CO_sink_21 : decode b_CO_sink 21 = .ok (.iadd, 1) := by decide +kernel
theorem d_CO_sink_22 : decode b_CO_sink 22 = .ok (.iload_n 2, 1) := by decide +kernel
theorem d_CO_sink_23 : decode b_CO_sink 23 = .ok (.if_icmp .ge 29, 3) := by decide +kernel
theorem d_CO_sink_26 : decode b_CO_sink 26 = .ok (.aload_n 0, 1) := by decide +kernel
theorem d_CO_sink_27 : decode b_CO_sink 27 = .ok (.aload_n 0, 1) := by decide +kernel
theorem d_CO_sink_28 : decode b_CO_sink 28 = .ok (.getfield 28, 3) := by decide +kernel
theorem d_CO_sink_31 : decode b_CO_sink 31 = .ok (.iload 4, 2) := by decide +kernel
theorem d_CO_sink_33 : decode b_CO_sink 33 = .ok (.iconst 1, 1) := by decide +kernel
theorem d_CO_sink_34 : decode b_CO_sink 34 = .ok (.iadd, 1) := by decide +kernel
theorem d_CO_sink_35 : decode b_CO_sink 35 = .ok (.iaload, 1) := by decide +kernel
theorem d_CO_sink_36 : decode b_CO_sink 36 = .ok (.aload_n 0, 1) := by decide +kernel
theorem d_CO_sink_37 : decode b_CO_sink 37 = .ok (.getfield 28, 3) := by decide +kernel
theorem d_CO_sink_40 : decode b_CO_sink 40 = .ok (.iload 4, 2) := by decide +kernel
theorem d_CO_sink_42 : decode b_CO_sink 42 = .ok (.iaload, 1) := by decide +kernel
theorem d_CO_sink_43 : decode b_CO_sink 43 = .ok (.invokevirtual 58, 3) := by decide +kernel
theorem d_CO_sink_46 : decode b_CO_sink 46 = .ok (.ifCond .le 6, 3) := by decide +kernel
theorem d_CO_sink_49 : decode b_CO_sink 49 = .ok (.iinc 4 1, 3) := by decide +kernel
theorem d_CO_sink_52 : decode b_CO_sink 52 = .ok (.aload_n 0, 1) := by decide +kernel
theorem d_CO_sink_53 : decode b_CO_sink 53 = .ok (.aload_n 0, 1) := by decide +kernel
theorem d_CO_sink_54 : decode b_CO_sink 54 = .ok (.getfield 28, 3) := by decide +kernel
theorem d_CO_sink_57 : decode b_CO_sink 57 = .ok (.iload 4, 2) := by decide +kernel
theorem d_CO_sink_59 : decode b_CO_sink 59 = .ok (.iaload, 1) := by decide +kernel
theorem d_CO_sink_60 : decode b_CO_sink 60 = .ok (.aload_n 0, 1) := by decide +kernel
theorem d_CO_sink_61 : decode b_CO_sink 61 = .ok (.getfield 28, 3) := by decide +kernel
theorem d_CO_sink_64 : decode b_CO_sink 64 = .ok (.iload_n 3, 1) := by decide +kernel
theorem d_CO_sink_65 : decode b_CO_sink 65 = .ok (.iaload, 1) := by decide +kernel
theorem d_CO_sink_66 : decode b_CO_sink 66 = .ok (.invokevirtual 58, 3) := by decide +kernel
theorem d_CO_sink_69 : decode b_CO_sink 69 = .ok (.ifCond .gt 4, 3) := by decide +kernel
theorem d_CO_sink_72 : decode b_CO_sink 72 = .ok (.return_, 1) := by decide +kernel
theorem d_CO_sink_73 : decode b_CO_sink 73 = .ok (.aload_n 0, 1) := by decide +kernel
theorem d_CO_sink_74 : decode b_CO_sink 74 = .ok (.getfield 28, 3) := by decide +kernel
theorem d_CO_sink_77 : decode b_CO_sink 77 = .ok (.iload_n 3, 1) := by decide +kernel
theorem d_CO_sink_78 : decode b_CO_sink 78 = .ok (.iaload, 1) := by decide +kernel
theorem d_CO_sink_79 : decode b_CO_sink 79 = .ok (.istore 5, 2) := by decide +kernel
theorem d_CO_sink_81 : decode b_CO_sink 81 = .ok (.aload_n 0, 1) := by decide +kernel
theorem d_CO_sink_82 : decode b_CO_sink 82 = .ok (.getfield 28, 3) := by decide +kernel
theorem d_CO_sink_85 : decode b_CO_sink 85 = .ok (.iload_n 3, 1) := by decide +kernel
theorem d_CO_sink_86 : decode b_CO_sink 86 = .ok (.aload_n 0, 1) := by decide +kernel
theorem d_CO_sink_87 : decode b_CO_sink 87 = .ok (.getfield 28, 3) := by decide +kernel
theorem d_CO_sink_90 : decode b_CO_sink 90 = .ok (.iload 4, 2) := by decide +kernel
theorem d_CO_sink_92 : decode b_CO_sink 92 = .ok (.iaload, 1) := by decide +kernel
theorem d_CO_sink_93 : decode b_CO_sink 93 = .ok (.iastore, 1) := by decide +kernel
theorem d_CO_sink_94 : decode b_CO_sink 94 = .ok (.aload_n 0, 1) := by decide +kernel
theorem d_CO_sink_95 : decode b_CO_sink 95 = .ok (.getfield 28, 3) := by decide +kernel
theorem d_CO_sink_98 : decode b_CO_sink 98 = .ok (.iload 4, 2) := by decide +kernel
theorem d_CO_sink_100 : decode b_CO_sink 100 = .ok (.iload 5, 2) := by decide +kernel
theorem d_CO_sink_102 : decode b_CO_sink 102 = .ok (.iastore, 1) := by decide +kernel
theorem d_CO_sink_103 : decode b_CO_sink 103 = .ok (.iload 4, 2) := by decide +kernel
theorem d_CO_sink_105 : decode b_CO_sink 105 = .ok (.istore_n 3, 1) := by decide +kernel
theorem d_CO_sink_106 : decode b_CO_sink 106 = .ok (.goto (-104), 3) := by decide +kernel
theorem d_CO_sink_109 : decode b_CO_sink 109 = .ok (.return_, 1) := by decide +kernel
theorem d_CO_sort_0 : decode b_CO_sort 0 = .ok (.aload_n 0, 1) := by decide +kernel
theorem d_CO_sort_1 : decode b_CO_sort 1 = .ok (.getfield 54, 3) := by decide +kernel
theorem d_CO_sort_4 : decode b_CO_sort 4 = .ok (.ifCond .eq 4, 3) := by decide +kernel
theorem d_CO_sort_7 : decode b_CO_sort 7 = .ok (.return_, 1) := by decide +kernel
theorem d_CO_sort_8 : decode b_CO_sort 8 = .ok (.iconst 0, 1) := by decide +kernel
theorem d_CO_sort_9 : decode b_CO_sort 9 = .ok (.istore_n 1, 1) := by decide +kernel
theorem d_CO_sort_10 : decode b_CO_sort 10 = .ok (.iconst 0, 1) := by decide +kernel
theorem d_CO_sort_11 : decode b_CO_sort 11 = .ok (.istore_n 2, 1) := by decide +kernel
theorem d_CO_sort_12 : decode b_CO_sort 12 = .ok (.iload_n 2, 1) := by decide +kernel
theorem d_CO_sort_13 : decode b_CO_sort 13 = .ok (.sipush 1024, 3) := by decide +kernel
theorem d_CO_sort_16 : decode b_CO_sort 16 = .ok (.if_icmp .ge 35, 3) := by decide +kernel
theorem d_CO_sort_19 : decode b_CO_sort 19 = .ok (.aload_n 0, 1) := by decide +kernel
theorem d_CO_sort_20 : decode b_CO_sort 20 = .ok (.getfield 25, 3) := by decide +kernel
theorem d_CO_sort_23 : decode b_CO_sort 23 = .ok (.iload_n 2, 1) := by decide +kernel
theorem d_CO_sort_24 : decode b_CO_sort 24 = .ok (.iaload, 1) := by decide +kernel
theorem d_CO_sort_25 : decode b_CO_sort 25 = .ok (.ifCond .eq 20, 3) := by decide +kernel
theorem d_CO_sort_28 : decode b_CO_sort 28 = .ok (.aload_n 0, 1) := by decide +kernel
theorem d_CO_sort_29 : decode b_CO_sort 29 = .ok (.getfield 28, 3) := by decide +kernel
theorem d_CO_sort_32 : decode b_CO_sort 32 = .ok (.iload_n 1, 1) := by decide +kernel
theorem d_CO_sort_33 : decode b_CO_sort 33 = .ok (.iinc 1 1, 3) := by decide +kernel
theorem d_CO_sort_36 : decode b_CO_sort 36 = .ok (.aload_n 0, 1) := by decide +kernel
theorem d_CO_sort_37 : decode b_CO_sort 37 = .ok (.getfield 25, 3) := by decide +kernel
theorem d_CO_sort_40 : decode b_CO_sort 40 = .ok (.iload_n 2, 1) := by decide +kernel
theorem d_CO_sort_41 : decode b_CO_sort 41 = .ok (.iaload, 1) := by decide +kernel
theorem d_CO_sort_42 : decode b_CO_sort 42 = .ok (.iconst 1, 1) := by decide +kernel
theorem d_CO_sort_43 : decode b_CO_sort 43 = .ok (.isub, 1) := by decide +kernel
theorem d_CO_sort_44 : decode b_CO_sort 44 = .ok (.iastore, 1) := by decide +kernel
theorem d_CO_sort_45 : decode b_CO_sort 45 = .ok (.iinc 2 1, 3) := by decide +kernel
theorem d_CO_sort_48 : decode b_CO_sort 48 = .ok (.goto (-36), 3) := by decide +kernel
theorem d_CO_sort_51 : decode b_CO_sort 51 = .ok (.iload_n 1, 1) := by decide +kernel
theorem d_CO_sort_52 : decode b_CO_sort 52 = .ok (.iconst 2, 1) := by decide +kernel
theorem d_CO_sort_53 : decode b_CO_sort 53 = .ok (.idiv, 1) := by decide +kernel
theorem d_CO_sort_54 : decode b_CO_sort 54 = .ok (.iconst 1, 1) := by decide +kernel
theorem d_CO_sort_55 : decode b_CO_sort 55 = .ok (.isub, 1) := by decide +kernel
theorem d_CO_sort_56 : decode b_CO_sort 56 = .ok (.istore_n 2, 1) := by decide +kernel
theorem d_CO_sort_57 : decode b_CO_sort 57 = .ok (.iload_n 2, 1) := by decide +kernel
theorem d_CO_sort_58 : decode b_CO_sort 58 = .ok (.ifCond .lt 15, 3) := by decide +kernel
theorem d_CO_sort_61 : decode b_CO_sort 61 = .ok (.aload_n 0, 1) := by decide +kernel
theorem d_CO_sort_62 : decode b_CO_sort 62 = .ok (.iload_n 2, 1) := by decide +kernel
theorem d_CO_sort_63 : decode b_CO_sort 63 = .ok (.iload_n 1, 1) := by decide +kernel
theorem d_CO_sort_64 : decode b_CO_sort 64 = .ok (.invokevirtual 62, 3) := by decide +kernel
theorem d_CO_sort_67 : decode b_CO_sort 67 = .ok (.iinc 2 (-1), 3) := by decide +kernel
theorem d_CO_sort_70 : decode b_CO_sort 70 = .ok (.goto (-13), 3) := by decide +kernel
theorem d_CO_sort_73 : decode b_CO_sort 73 = .ok (.iload_n 1, 1) := by decide +kernel
theorem d_CO_sort_74 : decode b_CO_sort 74 = .ok (.iconst 1, 1) := by decide +kernel
theorem d_CO_sort_75 : decode b_CO_sort 75 = .ok (.isub, 1) := by decide +kernel
theorem d_CO_sort_76 : decode b_CO_sort 76 = .ok (.istore_n 2, 1) := by decide +kernel
theorem d_CO_sort_77 : decode b_CO_sort 77 = .ok (.iload_n 2, 1) := by decide +kernel
theorem d_CO_sort_78 : decode b_CO_sort 78 = .ok (.ifCond .le 41, 3) := by decide +kernel
theorem d_CO_sort_81 : decode b_CO_sort 81 = .ok (.aload_n 0, 1) := by decide +kernel
theorem d_CO_sort_82 : decode b_CO_sort 82 = .ok (.getfield 28, 3) := by decide +kernel
theorem d_CO_sort_85 : decode b_CO_sort 85 = .ok (.iconst 0, 1) := by decide +kernel
theorem d_CO_sort_86 : decode b_CO_sort 86 = .ok (.iaload, 1) := by decide +kernel
theorem d_CO_sort_87 : decode b_CO_sort 87 = .ok (.istore_n 3, 1) := by decide +kernel
theorem d_CO_sort_88 : decode b_CO_sort 88 = .ok (.aload_n 0, 1) := by decide +kernel
theorem d_CO_sort_89 : decode b_CO_sort 89 = .ok (.getfield 28, 3) := by decide +kernel
theorem d_CO_sort_92 : decode b_CO_sort 92 = .ok (.iconst 0, 1) := by decide +kernel
theorem d_CO_sort_93 : decode b_CO_sort 93 = .ok (.aload_n 0, 1) := by decide +kernel
theorem d_CO_sort_94 : decode b_CO_sort 94 = .ok (.getfield 28, 3) := by decide +kernel
theorem d_CO_sort_97 : decode b_CO_sort 97 = .ok (.iload_n 2, 1) := by decide +kernel
theorem d_CO_sort_98 : decode b_CO_sort 98 = .ok (.iaload, 1) := by decide +kernel
theorem d_CO_sort_99 : decode b_CO_sort 99 = .ok (.iastore, 1) := by decide +kernel
theorem d_CO_sort_100 : decode b_CO_sort 100 = .ok (.aload_n 0, 1) := by decide +kernel
theorem d_CO_sort_101 : decode b_CO_sort 101 = .ok (.getfield 28, 3) := by decide +kernel
theorem d_CO_sort_104 : decode b_CO_sort 104 = .ok (.iload_n 2, 1) := by decide +kernel
theorem d_CO_sort_105 : decode b_CO_sort 105 = .ok (.iload_n 3, 1) := by decide +kernel
theorem d_CO_sort_106 : decode b_CO_sort 106 = .ok (.iastore, 1) := by decide +kernel
theorem d_CO_sort_107 : decode b_CO_sort 107 = .ok (.aload_n 0, 1) := by decide +kernel
theorem d_CO_sort_108 : decode b_CO_sort 108 = .ok (.iconst 0, 1) := by decide +kernel
theorem d_CO_sort_109 : decode b_CO_sort 109 = .ok (.iload_n 2, 1) := by decide +kernel
theorem d_CO_sort_110 : decode b_CO_sort 110 = .ok (.invokevirtual 62, 3) := by decide +kernel
theorem d_CO_sort_113 : decode b_CO_sort 113 = .ok (.iinc 2 (-1), 3) := by decide +kernel
theorem d_CO_sort_116 : decode b_CO_sort 116 = .ok (.goto (-39), 3) := by decide +kernel
theorem d_CO_sort_119 : decode b_CO_sort 119 = .ok (.aload_n 0, 1) := by decide +kernel
theorem d_CO_sort_120 : decode b_CO_sort 120 = .ok (.iconst 1, 1) := by decide +kernel
theorem d_CO_sort_121 : decode b_CO_sort 121 = .ok (.putfield 54, 3) := by decide +kernel
theorem d_CO_sort_124 : decode b_CO_sort 124 = .ok (.return_, 1) := by decide +kernel
theorem d_CO_nth_0 : decode b_CO_nth 0 = .ok (.iload_n 1, 1) := by decide +kernel
theorem d_CO_nth_1 : decode b_CO_nth 1 = .ok (.iconst 0, 1) := by decide +kernel
theorem d_CO_nth_2 : decode b_CO_nth 2 = .ok (.aload_n 0, 1) := by decide +kernel
theorem d_CO_nth_3 : decode b_CO_nth 3 = .ok (.getfield 47, 3) := by decide +kernel
theorem d_CO_nth_6 : decode b_CO_nth 6 = .ok (.iconst 1, 1) := by decide +kernel
theorem d_CO_nth_7 : decode b_CO_nth 7 = .ok (.isub, 1) := by decide +kernel
theorem d_CO_nth_8 : decode b_CO_nth 8 = .ok (.invokestatic 66, 3) := by decide +kernel
theorem d_CO_nth_11 : decode b_CO_nth 11 = .ok (.ifCond .ne 5, 3) := by decide +kernel
theorem d_CO_nth_14 : decode b_CO_nth 14 = .ok (.iconst (-1), 1) := by decide +kernel
theorem d_CO_nth_15 : decode b_CO_nth 15 = .ok (.ireturn, 1) := by decide +kernel
theorem d_CO_nth_16 : decode b_CO_nth 16 = .ok (.aload_n 0, 1) := by decide +kernel
theorem d_CO_nth_17 : decode b_CO_nth 17 = .ok (.invokevirtual 70, 3) := by decide +kernel
theorem d_CO_nth_20 : decode b_CO_nth 20 = .ok (.aload_n 0, 1) := by decide +kernel
theorem d_CO_nth_21 : decode b_CO_nth 21 = .ok (.getfield 28, 3) := by decide +kernel
theorem d_CO_nth_24 : decode b_CO_nth 24 = .ok (.iload_n 1, 1) := by decide +kernel
theorem d_CO_nth_25 : decode b_CO_nth 25 = .ok (.iaload, 1) := by decide +kernel
theorem d_CO_nth_26 : decode b_CO_nth 26 = .ok (.ireturn, 1) := by decide +kernel
end
section
/-! the frame of this proof: the world's fixed facts (wk), one form of contract (ct), its entry and its calls -/
/-- the addresses of a world -/
def ad_ (ws : va_W) : Nat → Prop := fun q => ∃ (k : Nat) (e : va_E), ws[k]? = some (q, e)
theorem ad_.self {ws : va_W} {A : Nat → Prop} (h : va_D A ws) : va_D (ad_ ws) ws := ⟨h.1, fun k q hk => ⟨k, q.2, hk⟩⟩
/-- what the tables say, and stays so -/
def wk (D : va_G) (cL cI : ClassId) (U : State) : Prop := va_K D classes [(cL, .long), (cI, .int)] U ∧ va_Nw nw_19 U ∧ va_Nw nw_21 U ∧ va_Nw nw_23 U ∧ va_Nw nw_108 U
theorem wk.warm {D : va_G} {cL cI : ClassId} {s U : State} (hW : s.WarmedH U.vm) (h : wk D cL cI s) : wk D cL cI U :=
  ⟨va_K.moved hW.alike h.1, h.2.1.warmF hW, h.2.2.1.warmF hW, h.2.2.2.1.warmF hW, h.2.2.2.2.warmM hW⟩
theorem wk.call {D : va_G} {cL cI : ClassId} {U : State} {g : JFrame} {mk : MethodId} {a : Array Value} (h : wk D cL cI U) : wk D cL cI (U.calling g mk a) :=
  ⟨va_K.moved (u := U) (U := U.calling g mk a) (Vm.Alike.refl U.vm) h.1, va_Nw.same (u := U) (U := U.calling g mk a) rfl rfl h.2.1, va_Nw.same (u := U) (U := U.calling g mk a) rfl rfl h.2.2.1, va_Nw.same (u := U) (U := U.calling g mk a) rfl rfl h.2.2.2.1, va_Nw.same (u := U) (U := U.calling g mk a) rfl rfl h.2.2.2.2⟩
/-- THE CONTRACT: from a heap that holds ws0, the method returns v with 'post v u', the heap holds 'wf u'; no cell comes, no old cell but those of ws0 changes -/
def ct_Q {S : Type} (D : va_G) (ws0 : va_W) (post : Option Value → S → Prop) (wf : S → va_W) : Array Value → State → Outcome → State → Prop := fun _ st oc t =>
  (∃ (v : Option Value) (u : S), oc = .returned v ∧ post v u ∧ va_P D classes (wf u) t.heap) ∧ va_F (ad_ ws0) st t
def ct_P (av : List Value) (D : va_G) (cL cI : ClassId) (ws0 : va_W) : Array Value → State → Prop := va_Pc av (fun U => va_P D classes ws0 U.heap ∧ wk D cL cI U ∧ va_D (fun _ => True) ws0)
def ct {S : Type} (l : Launch) (y : MethodName) (b : ByteArray) (n : Nat) (ret : Option FieldType) (rm : Room) (av : List Value) (D : va_G) (cL cI : ClassId) (ws0 : va_W) (post : Option Value → S → Prop) (wf : S → va_W) : Prop :=
  Met l y (Cond.code y b n ret :: tg) rm (ct_P av D cL cI ws0) (ct_Q D ws0 post wf) 0 0 (ad_ ws0)
theorem ct_blind {av : List Value} {D : va_G} {cL cI : ClassId} {ws0 : va_W} : FrameBlind (ct_P av D cL cI ws0) := fun _ _ _ _ q => ⟨q.1, q.2.1, q.2.2.1.call, q.2.2.2⟩
/-- how a method may end -/
def rtok (b : ByteArray) (ret : Option FieldType) (pc : Nat) (v : Option Value) : Prop :=
  (ret = none ∧ v = none ∧ decode b pc = .ok (.return_, 1)) ∨ (∃ x, ret = some .int ∧ v = some (.int x) ∧ decode b pc = .ok (.ireturn, 1)) ∨
  (∃ x, ret = some .boolean ∧ v = some (.int x) ∧ narrow .boolean (.int x) = .int x ∧ decode b pc = .ok (.ireturn, 1)) ∨ (∃ x, ret = some .long ∧ v = some (.long x) ∧ decode b pc = .ok (.lreturn, 1))
theorem rt_v {b : ByteArray} {pc : Nat} (h : decode b pc = .ok (.return_, 1)) : rtok b none pc none := Or.inl ⟨rfl, rfl, h⟩
theorem rt_i {b : ByteArray} {pc : Nat} {x : Int32} (h : decode b pc = .ok (.ireturn, 1)) : rtok b (some .int) pc (some (.int x)) := Or.inr (Or.inl ⟨x, rfl, rfl, h⟩)
theorem rt_z {b : ByteArray} {pc : Nat} {x : Int32} (h : decode b pc = .ok (.ireturn, 1)) (hn : narrow .boolean (.int x) = .int x) : rtok b (some .boolean) pc (some (.int x)) := Or.inr (Or.inr (Or.inl ⟨x, rfl, rfl, hn, h⟩))
theorem rt_l {b : ByteArray} {pc : Nat} {x : Int64} (h : decode b pc = .ok (.lreturn, 1)) : rtok b (some .long) pc (some (.long x)) := Or.inr (Or.inr (Or.inr ⟨x, rfl, rfl, h⟩))
theorem ct_ofW {S : Type} {l : Launch} {y : MethodName} {b : ByteArray} {n : Nat} {ret : Option FieldType} {rm : Room} {av : List Value} {D : va_G} {cL cI : ClassId} {ws0 : va_W} {post : Option Value → S → Prop} {wf : S → va_W}
    (hy : plainName y.cls = true) (hn : (lg_sl av).length ≤ n)
    (body : ∀ (p : Program) (e : Env) (s : State) (m : MethodId) (below : List Frame) (meth : Method) (c : Code) (Q : State → Prop) (ls : Array Slot),
      p.tables.exec = Jvm.exec → c.code = b → c.maxLocals = n → s.vm.findClass y.cls = some m.cls → (∀ w ∈ tg, w.before av.toArray s = true) → wk D cL cI s → va_P D classes ws0 s.heap → va_D (ad_ ws0) ws0 → va_S (ad_ ws0) s.heap s.heap [] → lv_has ls n (lv_args 0 av) →
      (∀ (v : Option Value) (u : S) (H : Heap) (locs : List Loc) (pc : Nat) (ls : Array Slot), rtok b ret pc v → post v u → va_P D classes (wf u) H → va_S (ad_ ws0) s.heap H locs → W p l e rm s m av.toArray below meth c H locs 0 0 Q (F0 m pc ls v.toList)) →
      W p l e rm s m av.toArray below meth c s.heap [] 0 0 Q (F0 m 0 ls [])) : ct l y b n ret rm av D cL cI ws0 post wf := by
  refine Met.ofW (cc := b) (maxL := n) (ret := ret) hy rfl ?_
  intro p e s m args below meth c s₁ B hml hv
  obtain ⟨rfl, hP, hK, hD⟩ := hv
  have hx := B.exec
  have hb := B.bytes
  have hr := B.returns
  have hlocks := B.notSynchronized
  have hts : ∀ w ∈ tg, w.before av.toArray s = true := fun w hw => atoms_spec (ws := Cond.code y b n ret :: tg) B.pre w (List.mem_cons_of_mem _ hw)
  have hl := lv_entry av (n := n) hn
  rw [lg_entry_eq]
  generalize (lg_sl av ++ List.replicate (n - (lg_sl av).length) Slot.unset).toArray = ls at hl ⊢
  refine body p e s m below meth c _ ls hx hb hml (findClass_of_methodNamed B.named) hts hK hP (ad_.self hD) va_S.rf hl ?_
  intro v u H locs pc ls' hrt hp hP' hS
  have hq : ∀ t : State, t.heap = H → s.WarmedH t.vm → ct_Q D ws0 post wf av.toArray s (.returned v) t := fun t ht _ => ⟨⟨v, u, rfl, hp, by rw [ht]; exact hP'⟩, hS.F ht⟩
  rcases hrt with ⟨e1, e2, hd⟩ | ⟨x, e1, e2, hd⟩ | ⟨x, e1, e2, hnar, hd⟩ | ⟨x, e1, e2, hd⟩
  · subst e2
    rw [e1] at hr
    exact W.vret hx hb hr hq hS.2.2 hd
  · subst e2
    rw [e1] at hr
    exact W.iret hx hb hr hq hS.2.2 hd
  · subst e2
    rw [e1] at hr
    exact W.zret hx hb hr hnar hq hS.2.2 hd
  · subst e2
    rw [e1] at hr
    exact W.lret hx hb hr hq hS.2.2 hd
/-- a world with other contents at the same addresses -/
theorem va_D_addr {A : Nat → Prop} {ws ws' : va_W} (hD : va_D A ws) (h : ws'.map Prod.fst = ws.map Prod.fst) : va_D A ws' := by
  have key : ∀ (k : Nat) (q : Nat × va_E), ws'[k]? = some q → ∃ q0, ws[k]? = some q0 ∧ q0.1 = q.1 := by
    intro k q hk
    have h1 : (ws'.map Prod.fst)[k]? = some q.1 := by rw [List.getElem?_map, hk]; rfl
    rw [h, List.getElem?_map] at h1
    cases hq : ws[k]? with
    | none => rw [hq] at h1; cases h1
    | some q0 => rw [hq] at h1; exact ⟨q0, rfl, Option.some.inj h1⟩
  refine ⟨fun i j x y hi hj hxy => ?_, fun k q hk => ?_⟩
  · obtain ⟨x0, h1, h2⟩ := key i x hi
    obtain ⟨y0, h3, h4⟩ := key j y hj
    exact hD.1 i j x0 y0 h1 h3 (h2.trans (hxy.trans h4.symm))
  · obtain ⟨q0, h1, h2⟩ := key k q hk
    rw [← h2]
    exact hD.2 k q0 h1
/-- the frame rule: the cells in the middle go to the callee and come back, those before and behind stay -/
theorem va_mid {A0 : Nat → Prop} {D : va_G} {w1 wc w2 wc' : va_W} {H H1 : Heap} (hP : va_P D classes (w1 ++ wc ++ w2) H) (hD : va_D A0 (w1 ++ wc ++ w2)) (hk : ∀ q : Nat, q < H.size → ¬ ad_ wc q → H1[q]? = H[q]?) (hP1 : va_P D classes wc' H1) (ha : wc'.map Prod.fst = wc.map Prod.fst) :
    va_P D classes (w1 ++ wc' ++ w2) H1 ∧ va_D A0 (w1 ++ wc' ++ w2) := by
  have at2 : ∀ (j : Nat), j < wc.length → (w1 ++ wc ++ w2)[w1.length + j]? = wc[j]? := by
    intro j hj
    rw [List.getElem?_append_left (by simp; omega), List.getElem?_append_right (by omega)]
    congr 1
    omega
  refine ⟨(va_P.app (va_P.app ?_ hP1) ?_), va_D_addr hD (by simp only [List.map_append, ha])⟩
  · intro k q hq
    have hl : k < w1.length := (List.getElem?_eq_some_iff.mp hq).1
    have hq' : (w1 ++ wc ++ w2)[k]? = some q := by
      rw [List.getElem?_append_left (by simp; omega), List.getElem?_append_left hl]; exact hq
    have hq2 := hP k q hq'
    refine hq2.kept (hk q.1 hq2.lt ?_)
    rintro ⟨j, e, hj⟩
    have hj2 : j < wc.length := (List.getElem?_eq_some_iff.mp hj).1
    have := hD.1 k (w1.length + j) q (q.1, e) hq' (by rw [at2 j hj2]; exact hj) rfl
    omega
  · intro k q hq
    have hq' : (w1 ++ wc ++ w2)[(w1 ++ wc).length + k]? = some q := by
      rw [List.getElem?_append_right (by omega)]
      have : (w1 ++ wc).length + k - (w1 ++ wc).length = k := by omega
      rw [this]; exact hq
    have hq2 := hP _ q hq'
    refine hq2.kept (hk q.1 hq2.lt ?_)
    rintro ⟨j, e, hj⟩
    have hj2 : j < wc.length := (List.getElem?_eq_some_iff.mp hj).1
    have h3 := hD.1 _ (w1.length + j) q (q.1, e) hq' (by rw [at2 j hj2]; exact hj) rfl
    simp only [List.length_append] at h3
    omega
theorem va_P_mid {D : va_G} {w1 wc w2 : va_W} {H : Heap} (hP : va_P D classes (w1 ++ wc ++ w2) H) : va_P D classes wc H := by
  intro k q hq
  have hl : k < wc.length := (List.getElem?_eq_some_iff.mp hq).1
  refine hP (w1.length + k) q ?_
  rw [List.getElem?_append_left (by simp; omega), List.getElem?_append_right (by omega)]
  rw [show w1.length + k - w1.length = k by omega]
  exact hq
theorem va_D_mid {A B : Nat → Prop} {w1 wc w2 : va_W} (hD : va_D A (w1 ++ wc ++ w2)) (hB : ∀ q, A q → B q) : va_D B wc := by
  have at2 : ∀ (j : Nat) (q : Nat × va_E), wc[j]? = some q → (w1 ++ wc ++ w2)[w1.length + j]? = some q := by
    intro j q hj
    have hl : j < wc.length := (List.getElem?_eq_some_iff.mp hj).1
    rw [List.getElem?_append_left (by simp; omega), List.getElem?_append_right (by omega)]
    rw [show w1.length + j - w1.length = j by omega]
    exact hj
  refine ⟨fun i j x y hi hj hxy => ?_, fun k q hk => hB _ (hD.2 _ q (at2 k q hk))⟩
  have := hD.1 _ _ x y (at2 i x hi) (at2 j y hj) hxy
  omega
section CTC
variable {p : Program} {l : Launch} {e : Env} {R : Room} {s : State} {m : MethodId} {args : Array Value} {below : List Frame} {meth : Method} {c : Code} {H : Heap} {locs : List Loc} {cells slots : Nat} {Q : State → Prop}
variable {pc : Nat} {ls : Array Slot} {rest st0 : List Value} {a : Array Value} {A0 : Nat → Prop} {H0 : Heap}
/-- behind a call that kept its contract -/
theorem ct_run {S : Type} {D : va_G} {w1 wc w2 : va_W} {post : Option Value → S → Prop} {wf : S → va_W} (hr : va_Run p l e R s m args below meth c H locs cells slots 0 0 (F0 m pc ls st0) rest (ct_Q D wc post wf a) (ad_ wc))
    (hP : va_P D classes (w1 ++ wc ++ w2) H) (hD : va_D A0 (w1 ++ wc ++ w2)) (hS : va_S A0 H0 H locs) (hw : ∀ u, (wf u).map Prod.fst = wc.map Prod.fst)
    (kk : ∀ (v : Option Value) (u : S) (H1 : Heap) (locs1 : List Loc), post v u → va_P D classes (w1 ++ wf u ++ w2) H1 → va_D A0 (w1 ++ wf u ++ w2) → va_S A0 H0 H1 locs1 → W p l e R s m args below meth c H1 locs1 cells slots Q (F0 m (pc + 3) ls (v.toList ++ rest))) : W p l e R s m args below meth c H locs cells slots Q (F0 m pc ls st0) := by
  have hA : ∀ q, ad_ wc q → A0 q := by
    rintro q ⟨k, e, h⟩
    exact (va_D_mid (B := A0) hD (fun _ h => h)).2 k (q, e) h
  intro T hT X
  obtain ⟨v, st₀, t, T', L, h0, X', hL, e1, e2, ⟨⟨v', u, hv, hp, hb⟩, hz, hk⟩, st⟩ := hr T hT X
  have hvv : v = v' := by injection hv
  subst hvv
  rw [h0] at hz hk
  have hk' : ∀ q : Nat, q < H.size → ¬ ad_ wc q → T'.heap[q]? = H[q]? := fun q h1 h2 => by rw [e1]; exact hk q h1 h2
  obtain ⟨hP2, hD2⟩ := va_mid hP hD hk' (by rw [e1]; exact hb) (hw u)
  obtain ⟨t2, a1, b1⟩ := kk v u T'.heap (locs ++ L) hp hP2 hD2
    ⟨Nat.le_trans hS.1 (by rw [e1]; exact hz), fun q h1 h2 => by
      rw [hk' q (Nat.lt_of_lt_of_le h1 hS.1) (fun z => h2 (hA q z))]; exact hS.2.1 q h1 h2, fun q hq => by
      rcases List.mem_append.mp hq with h | h
      · exact hS.2.2 q h
      · exact hA _ (hL q h)⟩ T' rfl X'
  exact ⟨t2, st t2 a1, b1⟩
variable {cc bytes : ByteArray} {nL maxL index n : Nat} {ret : Option FieldType} {rm : Room} {y : MethodName} {own : String} {As : List Value} {b : Nat} {D : va_G} {cL cI : ClassId}
/-- invokevirtual (private methods too), the receiver is the first cell of the callee's world -/
theorem ct_callV {S : Type} {w1 wc w2 : va_W} {post : Option Value → S → Prop} {wf : S → va_W} (hx : p.tables.exec = Jvm.exec) (hb : c.code = cc) (hml : c.maxLocals = nL) (hown : s.vm.findClass own = some m.cls) (hts : ∀ w ∈ tg, w.before args s = true) (hk : wk D cL cI s)
    (hM : ct l y bytes maxL ret rm (.ref b :: As) D cL cI wc post wf) (n : Nat) (hcode : Cond.code y bytes maxL ret ∈ tg) (hini : Cond.initialized y.cls ∈ tg) (hlink : Cond.methodLink own index y ∈ tg) (hinst : Cond.instanceMethod y ∈ tg) (hsel : Cond.selects y.cls y y ∈ tg)
    (hd : y.cls ≠ "java/lang/invoke/MethodHandle" ∧ y.cls ≠ "java/lang/invoke/VarHandle" ∧ (parseMethodDescriptor y.desc).map (fun d => d.parameters.length) = some n) (hR : rm.frames + 1 ≤ R.frames ∧ 8 + (maxL + 11) + rm.locals ≤ R.locals) (hrm : rm.cells = 0 ∧ rm.slots = 0)
    {ci : Nat} {fs : List Value} {T : u_T} {N : Nat} (hrec : wc[0]? = some (b, .inr (ci, fs))) (hcl : classes[ci]? = some (y.cls, T, N)) (hn : As.length = n) (hsz : ls.size = nL) (hst : st0 = As.reverse ++ .ref b :: rest) (hrest : (rest.map fun v => v.category).sum ≤ 8) (hdg : decode cc pc = .ok (.invokevirtual index, 3)) (hcells : cells ≤ R.cells ∧ slots ≤ R.slots)
    (hP : va_P D classes (w1 ++ wc ++ w2) H) (hD : va_D A0 (w1 ++ wc ++ w2)) (hS : va_S A0 H0 H locs) (hw : ∀ u, (wf u).map Prod.fst = wc.map Prod.fst)
    (kk : ∀ (v : Option Value) (u : S) (H1 : Heap) (locs1 : List Loc), post v u → va_P D classes (w1 ++ wf u ++ w2) H1 → va_D A0 (w1 ++ wf u ++ w2) → va_S A0 H0 H1 locs1 → W p l e R s m args below meth c H1 locs1 cells slots Q (F0 m (pc + 3) ls (v.toList ++ rest))) : W p l e R s m args below meth c H locs cells slots Q (F0 m pc ls st0) := by
  have hPc := va_P_mid hP
  refine ct_run (va_runV (C := y.cls) (n := n) (rest := rest) (As := As) (b := b) ⟨hx, hb, hml, hown, hts⟩ hM ⟨callB_of n hts (gd hcode) rfl hrm.1 hrm.2 (hts _ hini) (hts _ hlink) hd hR, hts _ hinst, hts _ hsel⟩ ⟨ct_blind, va_recv hk.1 hPc hcl hrec, fun U hU hW => ⟨rfl, by rw [hU]; exact hPc, hk.warm hW, va_D_mid hD (fun _ _ => trivial)⟩⟩ rfl hn hsz hst (lv_room hrest) hdg ⟨hcells.1, hcells.2⟩) hP hD hS hw kk
/-- invokestatic within the class; the callee's world is empty -/
theorem ct_callS {post : Option Value → Unit → Prop} {ws : va_W} (hx : p.tables.exec = Jvm.exec) (hb : c.code = cc) (hml : c.maxLocals = nL) (hown : s.vm.findClass own = some m.cls) (hts : ∀ w ∈ tg, w.before args s = true) (hk : wk D cL cI s)
    (hM : ct l y bytes maxL ret rm As D cL cI [] post (fun _ => [])) (n : Nat) (hcode : Cond.code y bytes maxL ret ∈ tg) (hini : Cond.initialized y.cls ∈ tg) (hlink : Cond.methodLink own index y ∈ tg) (hstat : Cond.static y ∈ tg)
    (hd : y.cls ≠ "java/lang/invoke/MethodHandle" ∧ y.cls ≠ "java/lang/invoke/VarHandle" ∧ (parseMethodDescriptor y.desc).map (fun d => d.parameters.length) = some n) (hR : rm.frames + 1 ≤ R.frames ∧ 8 + (maxL + 11) + rm.locals ≤ R.locals) (hrm : rm.cells = 0 ∧ rm.slots = 0)
    (hn : As.length = n) (hsz : ls.size = nL) (hst : st0 = As.reverse ++ rest) (hrest : (rest.map fun v => v.category).sum ≤ 8) (hdg : decode cc pc = .ok (.invokestatic index, 3)) (hcells : cells ≤ R.cells ∧ slots ≤ R.slots)
    (hP : va_P D classes ws H) (hD : va_D A0 ws) (hS : va_S A0 H0 H locs)
    (kk : ∀ (v : Option Value) (H1 : Heap) (locs1 : List Loc), post v () → va_P D classes ws H1 → va_S A0 H0 H1 locs1 → W p l e R s m args below meth c H1 locs1 cells slots Q (F0 m (pc + 3) ls (v.toList ++ rest))) : W p l e R s m args below meth c H locs cells slots Q (F0 m pc ls st0) := by
  have hP' : va_P D classes ([] ++ [] ++ ws) H := hP
  have hD' : va_D A0 ([] ++ [] ++ ws) := hD
  exact ct_run (w1 := []) (wc := []) (w2 := ws) (va_runS (n := n) (rest := rest) (As := As) ⟨hx, hb, hml, hown, hts⟩ hM ⟨callB_of n hts (gd hcode) rfl hrm.1 hrm.2 (hts _ hini) (hts _ hlink) hd hR, hts _ hstat⟩ ⟨ct_blind, fun U hU hW => ⟨rfl, va_P_mid (by rw [hU]; exact hP'), hk.warm hW, va_D_mid hD' (fun _ _ => trivial)⟩⟩ rfl hn hsz hst (lv_room hrest) hdg ⟨hcells.1, hcells.2⟩) hP' hD' hS (fun _ => rfl) (fun v u H1 locs1 hp hP1 _ hS1 => kk v H1 locs1 hp hP1 hS1)
/-- the same, a nest mate's method -/
theorem ct_callSN {post : Option Value → Unit → Prop} {ws : va_W} {host : String} (hx : p.tables.exec = Jvm.exec) (hb : c.code = cc) (hml : c.maxLocals = nL) (hown : s.vm.findClass own = some m.cls) (hts : ∀ w ∈ tg, w.before args s = true) (hk : wk D cL cI s)
    (hM : ct l y bytes maxL ret rm As D cL cI [] post (fun _ => [])) (n : Nat) (hcode : Cond.code y bytes maxL ret ∈ tg) (hini : Cond.initialized y.cls ∈ tg) (hlink : va_Nw (.methodLinkNest own index y host) s) (hstat : Cond.static y ∈ tg)
    (hd : y.cls ≠ "java/lang/invoke/MethodHandle" ∧ y.cls ≠ "java/lang/invoke/VarHandle" ∧ (parseMethodDescriptor y.desc).map (fun d => d.parameters.length) = some n) (hR : rm.frames + 1 ≤ R.frames ∧ 8 + (maxL + 11) + rm.locals ≤ R.locals) (hrm : rm.cells = 0 ∧ rm.slots = 0)
    (hn : As.length = n) (hsz : ls.size = nL) (hst : st0 = As.reverse ++ rest) (hrest : (rest.map fun v => v.category).sum ≤ 8) (hdg : decode cc pc = .ok (.invokestatic index, 3)) (hcells : cells ≤ R.cells ∧ slots ≤ R.slots)
    (hP : va_P D classes ws H) (hD : va_D A0 ws) (hS : va_S A0 H0 H locs)
    (kk : ∀ (v : Option Value) (H1 : Heap) (locs1 : List Loc), post v () → va_P D classes ws H1 → va_S A0 H0 H1 locs1 → W p l e R s m args below meth c H1 locs1 cells slots Q (F0 m (pc + 3) ls (v.toList ++ rest))) : W p l e R s m args below meth c H locs cells slots Q (F0 m pc ls st0) := by
  have hP' : va_P D classes ([] ++ [] ++ ws) H := hP
  have hD' : va_D A0 ([] ++ [] ++ ws) := hD
  exact ct_run (w1 := []) (wc := []) (w2 := ws) (va_runSN (n := n) (rest := rest) (As := As) ⟨hx, hb, hml, hown, hts⟩ hM ⟨va_cnB n hts (gd hcode) rfl hrm.1 hrm.2 hlink (hts _ hini) hd hR, hts _ hstat, trivial⟩ ⟨ct_blind, fun U hU hW => ⟨rfl, va_P_mid (by rw [hU]; exact hP'), hk.warm hW, va_D_mid hD' (fun _ _ => trivial)⟩⟩ rfl hn hsz hst (lv_room hrest) hdg ⟨hcells.1, hcells.2⟩) hP' hD' hS (fun _ => rfl) (fun v u H1 locs1 hp hP1 _ hS1 => kk v H1 locs1 hp hP1 hS1)
end CTC
section ROWS
variable {p : Program} {l : Launch} {e : Env} {R : Room} {s : State} {m : MethodId} {args : Array Value} {below : List Frame} {meth : Method} {c : Code} {H : Heap} {locs : List Loc} {cells slots : Nat} {Q : State → Prop}
variable {cc : ByteArray} {pc : Nat} {ls : Array Slot} {rest : List Value} {D : va_G} {cl : List vw_C} {A : Nat → Prop} {a : Nat} {tys : List (ClassId × FieldType)} {ws : va_W} {H0 : Heap}
theorem lv_repi {x : Int32} (y : Int32) (h : x = y) (k : W p l e R s m args below meth c H locs cells slots Q (F0 m pc ls (.int y :: rest))) : W p l e R s m args below meth c H locs cells slots Q (F0 m pc ls (.int x :: rest)) := by rw [h]; exact k
theorem lv_repl {x : Int64} (y : Int64) (h : x = y) (k : W p l e R s m args below meth c H locs cells slots Q (F0 m pc ls (.long y :: rest))) : W p l e R s m args below meth c H locs cells slots Q (F0 m pc ls (.long x :: rest)) := by rw [h]; exact k
theorem xi_ald (hexec : p.tables.exec = Jvm.exec) (hb : c.code = cc) (hK : va_K D cl tys s) (hP : va_P D cl ws H) (q0 t0 : Nat) {cA : ClassId} {n : Nat} {f : Nat → Int32} (ha : ws[q0]? = some (a, .inl (cA, n, .inl f))) (ht : tys[t0]? = some (cA, .int)) {i : Int32} (k : Nat) (v : Int32) (hi : i = nI k) (hk : k < n) (hn : n < 2 ^ 31) (hv : f k = v) (hdg : decode cc pc = .ok (.iaload, 1))
    (kk : W p l e R s m args below meth c H locs cells slots Q (F0 m (pc + 1) ls (.int v :: rest))) : W p l e R s m args below meth c H locs cells slots Q (F0 m pc ls (.int i :: .ref a :: rest)) := by
  subst hi
  refine va_iald hexec hb hK hP q0 t0 ha ht (vp_in_nI hk hn) hdg ?_
  rw [nI_clamp (by omega), hv]
  exact kk
theorem xl_ald (hexec : p.tables.exec = Jvm.exec) (hb : c.code = cc) (hK : va_K D cl tys s) (hP : va_P D cl ws H) (q0 t0 : Nat) {cA : ClassId} {n : Nat} {f : Nat → Int64} (ha : ws[q0]? = some (a, .inl (cA, n, .inr (.inl f)))) (ht : tys[t0]? = some (cA, .long)) {i : Int32} (k : Nat) (v : Int64) (hi : i = nI k) (hk : k < n) (hn : n < 2 ^ 31) (hv : f k = v) (hdg : decode cc pc = .ok (.laload, 1))
    (kk : W p l e R s m args below meth c H locs cells slots Q (F0 m (pc + 1) ls (.long v :: rest))) : W p l e R s m args below meth c H locs cells slots Q (F0 m pc ls (.int i :: .ref a :: rest)) := by
  subst hi
  refine va_lald hexec hb hK hP q0 t0 ha ht (vp_in_nI hk hn) hdg ?_
  rw [nI_clamp (by omega), hv]
  exact kk
theorem xi_ast (hexec : p.tables.exec = Jvm.exec) (hb : c.code = cc) (hK : va_K D cl tys s) (hP : va_P D cl ws H) (hD : va_D A ws) (hS : va_S A H0 H locs) (q0 t0 : Nat) {cA : ClassId} {n : Nat} {f : Nat → Int32} (ha : ws[q0]? = some (a, .inl (cA, n, .inl f))) (ht : tys[t0]? = some (cA, .int)) {i : Int32} {x : Int32} (k : Nat) (f' : Nat → Int32) (hi : i = nI k) (hk : k < n) (hn : n < 2 ^ 31) (hf : upd f k x = f') (hdg : decode cc pc = .ok (.iastore, 1))
    (kk : ∀ (H1 : Heap) (locs1 : List Loc), va_P D cl (ws.set q0 (a, .inl (cA, n, .inl f'))) H1 → va_D A (ws.set q0 (a, .inl (cA, n, .inl f'))) → va_S A H0 H1 locs1 → W p l e R s m args below meth c H1 locs1 cells slots Q (F0 m (pc + 1) ls rest)) : W p l e R s m args below meth c H locs cells slots Q (F0 m pc ls (.int x :: .int i :: .ref a :: rest)) := by
  subst hi
  refine va_iast hexec hb hK hP hD hS q0 t0 ha ht (vp_in_nI hk hn) hdg ?_
  rw [nI_clamp (by omega), hf]
  exact kk
theorem xl_ast (hexec : p.tables.exec = Jvm.exec) (hb : c.code = cc) (hK : va_K D cl tys s) (hP : va_P D cl ws H) (hD : va_D A ws) (hS : va_S A H0 H locs) (q0 t0 : Nat) {cA : ClassId} {n : Nat} {f : Nat → Int64} (ha : ws[q0]? = some (a, .inl (cA, n, .inr (.inl f)))) (ht : tys[t0]? = some (cA, .long)) {i : Int32} {x : Int64} (k : Nat) (f' : Nat → Int64) (hi : i = nI k) (hk : k < n) (hn : n < 2 ^ 31) (hf : vp_updL f k x = f') (hdg : decode cc pc = .ok (.lastore, 1))
    (kk : ∀ (H1 : Heap) (locs1 : List Loc), va_P D cl (ws.set q0 (a, .inl (cA, n, .inr (.inl f')))) H1 → va_D A (ws.set q0 (a, .inl (cA, n, .inr (.inl f')))) → va_S A H0 H1 locs1 → W p l e R s m args below meth c H1 locs1 cells slots Q (F0 m (pc + 1) ls rest)) : W p l e R s m args below meth c H locs cells slots Q (F0 m pc ls (.long x :: .int i :: .ref a :: rest)) := by
  subst hi
  refine va_last hexec hb hK hP hD hS q0 t0 ha ht (vp_in_nI hk hn) hdg ?_
  rw [nI_clamp (by omega), hf]
  exact kk
end ROWS
/-- a table of natural numbers, one place changed -/
def un (f : Nat → Nat) (k x : Nat) : Nat → Nat := fun j => if j = k then x else f j
theorem un_nI (f : Nat → Nat) (k x : Nat) : upd (fun j => nI (f j)) k (nI x) = fun j => nI (un f k x j) := by
  funext j
  show (if j = k then nI x else nI (f j)) = nI (if j = k then x else f j)
  by_cases h : j = k
  · rw [if_pos h, if_pos h]
  · rw [if_neg h, if_neg h]
theorem un_eq {f : Nat → Nat} {k x : Nat} : un f k x k = x := if_pos rfl
theorem un_ne {f : Nat → Nat} {k x j : Nat} (h : j ≠ k) : un f k x j = f j := if_neg h
/-- the world of a Coins object: ad 0 the object, ad 1 .. its arrays id, index, worth, free, table, row -/
abbrev wC (ad : Nat → Nat) (cL cI : ClassId) (id : Nat → Int64) (ix wo : Nat → Int32) (fr : Nat → Nat) (fm : Nat) (tb : Nat → Nat) (mn : Nat) (vl : Int64) (rw : Nat → Nat) (so : Int32) : va_W :=
  [(ad 0, .inr (1, [.ref (ad 1), .ref (ad 2), .ref (ad 3), .ref (ad 4), .int (nI fm), .ref (ad 5), .int (nI mn), .long vl, .ref (ad 6), .int so])), (ad 1, .inl (cL, 900, .inr (.inl id))), (ad 2, .inl (cI, 900, .inl ix)), (ad 3, .inl (cI, 900, .inl wo)), (ad 4, .inl (cI, 900, .inl (fun j => nI (fr j)))), (ad 5, .inl (cI, 1024, .inl (fun j => nI (tb j)))), (ad 6, .inl (cI, 900, .inl (fun j => nI (rw j))))]
/-- the world of a NameTableModel: ad 0 the object, ad 1 .. its arrays id, index, value -/
abbrev wM (ad : Nat → Nat) (cL cI : ClassId) (n : Nat) (I : Nat → Int64) (X V : Nat → Int32) : va_W :=
  [(ad 0, .inr (2, [.ref (ad 1), .ref (ad 2), .ref (ad 3), .int (nI n)])), (ad 1, .inl (cL, 900, .inr (.inl I))), (ad 2, .inl (cI, 900, .inl X)), (ad 3, .inl (cI, 900, .inl V))]
end
section
/-! plain laws, A: pigeons, the order of names, heaps, two rising rows with the same members -/
theorem pg_hole : ∀ (N m : Nat) (f : Nat → Nat), (∀ k, k < m → f k < N) → (∀ i j, i < m → j < m → f i = f j → i = j) → m ≤ N := by
  intro N
  induction N with
  | zero =>
    intro m f h _
    cases m with
    | zero => exact Nat.le_refl _
    | succ m => exact absurd (h 0 (Nat.succ_pos m)) (Nat.not_lt_zero _)
  | succ N ih =>
    intro m f h hi
    by_cases hx : ∃ k, k < m ∧ f k = N
    · obtain ⟨k0, hk0, e0⟩ := hx
      have key : m - 1 ≤ N := by
        refine ih (m - 1) (fun j => if j < k0 then f j else f (j + 1)) ?_ ?_
        · intro j hj
          show (if j < k0 then f j else f (j + 1)) < N
          by_cases hjk : j < k0
          · rw [if_pos hjk]
            have h1 := h j (by omega)
            have h2 : f j ≠ N := fun e => by
              have := hi j k0 (by omega) hk0 (e.trans e0.symm)
              omega
            omega
          · rw [if_neg hjk]
            have h1 := h (j + 1) (by omega)
            have h2 : f (j + 1) ≠ N := fun e => by
              have := hi (j + 1) k0 (by omega) hk0 (e.trans e0.symm)
              omega
            omega
        · intro i j hi' hj' e
          have e : (if i < k0 then f i else f (i + 1)) = (if j < k0 then f j else f (j + 1)) := e
          by_cases hik : i < k0 <;> by_cases hjk : j < k0
          · rw [if_pos hik, if_pos hjk] at e
            exact hi i j (by omega) (by omega) e
          · rw [if_pos hik, if_neg hjk] at e
            have := hi i (j + 1) (by omega) (by omega) e
            omega
          · rw [if_neg hik, if_pos hjk] at e
            have := hi (i + 1) j (by omega) (by omega) e
            omega
          · rw [if_neg hik, if_neg hjk] at e
            have := hi (i + 1) (j + 1) (by omega) (by omega) e
            omega
      omega
    · exact Nat.le_succ_of_le (ih m f (fun k hk => by
        have h1 := h k hk
        have h2 : f k ≠ N := fun e => hx ⟨k, hk, e⟩
        omega) hi)
/-- the order of names: first the id, then the number -/
abbrev kl (a : Int64) (i : Int32) (b : Int64) (j : Int32) : Prop := a < b ∨ (a = b ∧ i < j)
theorem kl_iff {a b : Int64} {i j : Int32} : kl a i b j ↔ (a.toInt < b.toInt ∨ (a.toInt = b.toInt ∧ i.toInt < j.toInt)) := by
  unfold kl
  rw [Int64.lt_iff_toInt_lt, Int32.lt_iff_toInt_lt, ← Int64.toInt_inj]
theorem kl_irr {a : Int64} {i : Int32} : ¬ kl a i a i := by rw [kl_iff]; omega
theorem kl_tr {a b c : Int64} {i j k : Int32} (h1 : kl a i b j) (h2 : kl b j c k) : kl a i c k := by
  rw [kl_iff] at *; omega
theorem kl_asy {a b : Int64} {i j : Int32} (h1 : kl a i b j) : ¬ kl b j a i := by
  rw [kl_iff] at *; omega
theorem kl_tot {a b : Int64} {i j : Int32} (h1 : ¬ kl a i b j) (h2 : ¬ kl b j a i) : a = b ∧ i = j := by
  rw [kl_iff] at h1 h2
  rw [← Int64.toInt_inj, ← Int32.toInt_inj]
  omega
/-- not greater -/
abbrev lc (id : Nat → Int64) (ix : Nat → Int32) (a b : Nat) : Prop := ¬ kl (id b) (ix b) (id a) (ix a)
theorem lc_tr {id : Nat → Int64} {ix : Nat → Int32} {a b c : Nat} (h1 : lc id ix a b) (h2 : lc id ix b c) : lc id ix a c := by
  unfold lc at *
  rw [kl_iff] at *; omega
theorem lc_of {id : Nat → Int64} {ix : Nat → Int32} {a b : Nat} (h : kl (id a) (ix a) (id b) (ix b)) : lc id ix a b := kl_asy h
theorem lc_rf {id : Nat → Int64} {ix : Nat → Int32} {a : Nat} : lc id ix a a := kl_irr
/-! heaps -/
def hp_at (le : Nat → Nat → Prop) (rw : Nat → Nat) (n k : Nat) : Prop := ∀ j, (j = 2 * k + 1 ∨ j = 2 * k + 2) → j < n → le (rw j) (rw k)
/-- two places change theirs -/
def sw (f : Nat → Nat) (a b : Nat) : Nat → Nat := un (un f a (f b)) b (f a)
theorem sw_b {f : Nat → Nat} {a b : Nat} : sw f a b b = f a := un_eq
theorem sw_a {f : Nat → Nat} {a b : Nat} : sw f a b a = f b := by
  unfold sw
  by_cases h : a = b
  · rw [h]; exact un_eq
  · rw [un_ne h, un_eq]
theorem sw_o {f : Nat → Nat} {a b j : Nat} (h1 : j ≠ a) (h2 : j ≠ b) : sw f a b j = f j := by
  unfold sw
  rw [un_ne h2, un_ne h1]
/-- the same members below n, the same behind n, different ones stay different -/
def rg (f g : Nat → Nat) (n : Nat) : Prop := (∀ j, n ≤ j → g j = f j) ∧ (∀ c, (∃ k, k < n ∧ g k = c) ↔ (∃ k, k < n ∧ f k = c)) ∧ ((∀ i j, i < n → j < n → f i = f j → i = j) → ∀ i j, i < n → j < n → g i = g j → i = j)
theorem rg_rf (f : Nat → Nat) (n : Nat) : rg f f n := ⟨fun _ _ => rfl, fun _ => Iff.rfl, fun h => h⟩
theorem rg_tr {f g h : Nat → Nat} {n : Nat} (h1 : rg f g n) (h2 : rg g h n) : rg f h n :=
  ⟨fun j hj => (h2.1 j hj).trans (h1.1 j hj), fun c => (h2.2.1 c).trans (h1.2.1 c), fun hf => h2.2.2 (h1.2.2 hf)⟩
theorem rg_sw {f : Nat → Nat} {n a b : Nat} (ha : a < n) (hb : b < n) : rg f (sw f a b) n := by
  refine ⟨fun j hj => sw_o (by omega) (by omega), fun c => ⟨?_, ?_⟩, fun hf i j hi hj e => ?_⟩
  · rintro ⟨k, hk, e⟩
    by_cases h1 : k = a
    · rw [h1, sw_a] at e; exact ⟨b, hb, e⟩
    · by_cases h2 : k = b
      · rw [h2, sw_b] at e; exact ⟨a, ha, e⟩
      · rw [sw_o h1 h2] at e; exact ⟨k, hk, e⟩
  · rintro ⟨k, hk, e⟩
    by_cases h1 : k = a
    · exact ⟨b, hb, by rw [sw_b, ← h1]; exact e⟩
    · by_cases h2 : k = b
      · exact ⟨a, ha, by rw [sw_a, ← h2]; exact e⟩
      · exact ⟨k, hk, by rw [sw_o h1 h2]; exact e⟩
  · have q : ∀ x, x < n → ∃ y, y < n ∧ sw f a b x = f y ∧ ((x = a ∧ y = b) ∨ (x = b ∧ y = a) ∨ (x ≠ a ∧ x ≠ b ∧ y = x)) := by
      intro x hx
      by_cases h1 : x = a
      · exact ⟨b, hb, by rw [h1]; exact sw_a, Or.inl ⟨h1, rfl⟩⟩
      · by_cases h2 : x = b
        · exact ⟨a, ha, by rw [h2]; exact sw_b, Or.inr (Or.inl ⟨h2, rfl⟩)⟩
        · exact ⟨x, hx, sw_o h1 h2, Or.inr (Or.inr ⟨h1, h2, rfl⟩)⟩
    obtain ⟨y1, a1, a2, a3⟩ := q i hi
    obtain ⟨y2, b1, b2, b3⟩ := q j hj
    have := hf y1 y2 a1 b1 (by rw [← a2, ← b2]; exact e)
    omega
/-- what holds at the head of the sinking loop -/
def sk_inv (le : Nat → Nat → Prop) (rw0 rw : Nat → Nat) (fo n k : Nat) : Prop :=
  fo ≤ k ∧ (∀ j, fo ≤ j → j ≠ k → hp_at le rw n j) ∧ (∀ q, fo ≤ q → (k = 2 * q + 1 ∨ k = 2 * q + 2) → ∀ j, (j = 2 * k + 1 ∨ j = 2 * k + 2) → j < n → le (rw j) (rw q)) ∧ rg rw0 rw n
theorem sk_0 {le : Nat → Nat → Prop} {rw : Nat → Nat} {fo n : Nat} (h : ∀ j, fo < j → hp_at le rw n j) : sk_inv le rw rw fo n fo :=
  ⟨Nat.le_refl _, fun j h1 h2 => h j (by omega), fun q h1 h2 => by omega, rg_rf _ _⟩
theorem sk_step {le : Nat → Nat → Prop} {rw0 rw : Nat → Nat} {fo n k ch : Nat} (h : sk_inv le rw0 rw fo n k) (hc : ch = 2 * k + 1 ∨ ch = 2 * k + 2) (hn : ch < n) (hm : ∀ j, (j = 2 * k + 1 ∨ j = 2 * k + 2) → j < n → le (rw j) (rw ch)) (hle : le (rw k) (rw ch)) : sk_inv le rw0 (sw rw k ch) fo n ch := by
  obtain ⟨h1, h2, h3, h4⟩ := h
  refine ⟨by omega, fun j hj hne => ?_, fun q hq hqc j hj hjn => ?_, rg_tr h4 (rg_sw (by omega) hn)⟩
  · intro i hi hin
    by_cases hjk : j = k
    · subst hjk
      rw [sw_a]
      by_cases hic : i = ch
      · rw [hic, sw_b]; exact hle
      · rw [sw_o (by omega) hic]; exact hm i hi hin
    · rw [sw_o (f := rw) hjk hne]
      by_cases hik : i = k
      · rw [hik, sw_a]
        exact h3 j hj (by omega) ch hc hn
      · by_cases hic : i = ch
        · omega
        · rw [sw_o hik hic]
          exact h2 j hj hjk i hi hin
  · have hqk : q = k := by omega
    subst hqk
    rw [sw_a, sw_o (by omega) (by omega)]
    exact h2 ch (by omega) (by omega) j hj hjn
theorem sk_end {le : Nat → Nat → Prop} {rw0 rw : Nat → Nat} {fo n k : Nat} (h : sk_inv le rw0 rw fo n k) (hk : hp_at le rw n k) : rg rw0 rw n ∧ ∀ j, fo ≤ j → hp_at le rw n j := by
  refine ⟨h.2.2.2, fun j hj => ?_⟩
  by_cases e : j = k
  · rw [e]; exact hk
  · exact h.2.1 j hj e
/-- the top of a heap is its greatest -/
theorem hp_top {le : Nat → Nat → Prop} (hrf : ∀ a, le a a) (htr : ∀ a b c, le a b → le b c → le a c) {rw : Nat → Nat} {n : Nat} (h : ∀ j, hp_at le rw n j) : ∀ i, i < n → le (rw i) (rw 0) := by
  intro i
  induction i using Nat.strongRecOn with
  | _ i ih =>
    intro hi
    by_cases h0 : i = 0
    · rw [h0]; exact hrf _
    · have h1 := h ((i - 1) / 2) i (by omega) hi
      exact htr _ _ _ h1 (ih ((i - 1) / 2) (by omega) (by omega))
/-- what holds at the head of the second loop of sorting: a heap of m, behind it all that is greater -/
def so_inv (le : Nat → Nat → Prop) (rw0 rw : Nat → Nat) (n m : Nat) : Prop :=
  m ≤ n ∧ (∀ j, hp_at le rw m j) ∧ (∀ j, m ≤ j → j < n → ∀ i, i < j → le (rw i) (rw j)) ∧ rg rw0 rw n
theorem rg_up {f g : Nat → Nat} {m n : Nat} (h : rg f g m) (hmn : m ≤ n) : rg f g n := by
  refine ⟨fun j hj => h.1 j (by omega), fun c => ⟨?_, ?_⟩, fun hf i j hi hj e => ?_⟩
  · rintro ⟨k, hk, e⟩
    by_cases hkm : k < m
    · obtain ⟨k2, a, b⟩ := (h.2.1 c).mp ⟨k, hkm, e⟩
      exact ⟨k2, by omega, b⟩
    · exact ⟨k, hk, by rw [← h.1 k (by omega)]; exact e⟩
  · rintro ⟨k, hk, e⟩
    by_cases hkm : k < m
    · obtain ⟨k2, a, b⟩ := (h.2.1 c).mpr ⟨k, hkm, e⟩
      exact ⟨k2, by omega, b⟩
    · exact ⟨k, hk, by rw [h.1 k (by omega)]; exact e⟩
  · have hg : ∀ i j, i < m → j < m → g i = g j → i = j := h.2.2 (fun i j a b => hf i j (by omega) (by omega))
    by_cases him : i < m <;> by_cases hjm : j < m
    · exact hg i j him hjm e
    · obtain ⟨k, k1, k2⟩ := (h.2.1 (g i)).mp ⟨i, him, rfl⟩
      rw [h.1 j (by omega)] at e
      have := hf k j (by omega) hj (k2.trans e)
      omega
    · obtain ⟨k, k1, k2⟩ := (h.2.1 (g j)).mp ⟨j, hjm, rfl⟩
      rw [h.1 i (by omega)] at e
      have := hf k i (by omega) hi (k2.trans e.symm)
      omega
    · rw [h.1 i (by omega), h.1 j (by omega)] at e
      exact hf i j hi hj e
theorem so_step {le : Nat → Nat → Prop} (hrf : ∀ a, le a a) (htr : ∀ a b c, le a b → le b c → le a c) {rw0 rw rw2 : Nat → Nat} {n k : Nat} (h : so_inv le rw0 rw n (k + 1)) (hk : 0 < k) (h1 : rg (sw rw 0 k) rw2 k) (h2 : ∀ j, 0 ≤ j → hp_at le rw2 k j) : so_inv le rw0 rw2 n k := by
  obtain ⟨a1, a2, a3, a4⟩ := h
  refine ⟨by omega, fun j => h2 j (Nat.zero_le _), fun j hj hjn i hi => ?_, rg_tr (rg_tr a4 (rg_sw (by omega) (by omega))) (rg_up h1 (by omega))⟩
  have top := hp_top hrf htr a2
  have mem : ∀ i, i < k → ∃ y, y < k + 1 ∧ rw2 i = rw y := by
    intro i hik
    obtain ⟨x, x1, x2⟩ := (h1.2.1 (rw2 i)).mp ⟨i, hik, rfl⟩
    by_cases hx0 : x = 0
    · rw [hx0, sw_a] at x2; exact ⟨k, by omega, x2.symm⟩
    · rw [sw_o hx0 (by omega)] at x2; exact ⟨x, by omega, x2.symm⟩
  rw [h1.1 j hj]
  by_cases hjk : j = k
  · subst hjk
    rw [sw_b]
    obtain ⟨y, y1, y2⟩ := mem i hi
    rw [y2]
    exact top y y1
  · rw [sw_o (by omega) hjk]
    by_cases hik : i < k
    · obtain ⟨y, y1, y2⟩ := mem i hik
      rw [y2]
      exact a3 j (by omega) hjn y (by omega)
    · rw [h1.1 i (by omega)]
      by_cases hik2 : i = k
      · rw [hik2, sw_b]
        exact a3 j (by omega) hjn 0 (by omega)
      · rw [sw_o (by omega) hik2]
        exact a3 j (by omega) hjn i hi
/-- before the sinking from the top: below the top all is heap -/
theorem so_pre {le : Nat → Nat → Prop} {rw0 rw : Nat → Nat} {n k : Nat} (h : so_inv le rw0 rw n (k + 1)) (hk : 0 < k) : ∀ j, 0 < j → hp_at le (sw rw 0 k) k j := by
  intro j hj i hi hik
  rw [sw_o (by omega) (by omega), sw_o (by omega) (by omega)]
  exact h.2.1 j i hi (by omega)
/-- two rising rows with the same members are the same -/
theorem ri_eq {α : Type} (lt : α → α → Prop) (hir : ∀ a, ¬ lt a a) (htr : ∀ a b c, lt a b → lt b c → lt a c) {f g : Nat → α} {n m : Nat} (hf : ∀ i j, i < j → j < n → lt (f i) (f j)) (hg : ∀ i j, i < j → j < m → lt (g i) (g j))
    (h1 : ∀ k, k < n → ∃ l, l < m ∧ g l = f k) (h2 : ∀ k, k < m → ∃ l, l < n ∧ f l = g k) : n = m ∧ ∀ k, k < n → f k = g k := by
  have key : ∀ k, (k < n ∨ k < m) → k < n ∧ k < m ∧ f k = g k := by
    intro k
    induction k using Nat.strongRecOn with
    | _ k ih =>
      intro hk
      have fa : k < n → ∃ l, k ≤ l ∧ l < m ∧ g l = f k := by
        intro hkn
        obtain ⟨l, l1, l2⟩ := h1 k hkn
        refine ⟨l, ?_, l1, l2⟩
        apply Nat.le_of_not_lt
        intro hlk
        obtain ⟨-, -, e⟩ := ih l hlk (Or.inr l1)
        have := hf l k hlk hkn
        rw [e, l2] at this
        exact hir _ this
      have ga : k < m → ∃ l, k ≤ l ∧ l < n ∧ f l = g k := by
        intro hkm
        obtain ⟨l, l1, l2⟩ := h2 k hkm
        refine ⟨l, ?_, l1, l2⟩
        apply Nat.le_of_not_lt
        intro hlk
        obtain ⟨-, -, e⟩ := ih l hlk (Or.inl l1)
        have := hg l k hlk hkm
        rw [← e, l2] at this
        exact hir _ this
      have hn : k < n := by
        rcases hk with h | h
        · exact h
        · obtain ⟨l, l1, l2, -⟩ := ga h; omega
      have hm : k < m := by
        obtain ⟨l, l1, l2, -⟩ := fa hn; omega
      obtain ⟨l, l1, l2, l3⟩ := fa hn
      obtain ⟨q, q1, q2, q3⟩ := ga hm
      refine ⟨hn, hm, ?_⟩
      by_cases hkl : l = k
      · rw [hkl] at l3; exact l3.symm
      · exfalso
        have a := hg k l (by omega) l2
        rw [l3] at a
        by_cases hkq : q = k
        · rw [hkq] at q3; rw [q3] at a; exact hir _ a
        · have b := hf k q (by omega) q2
          rw [q3] at b
          exact hir _ (htr _ _ _ a b)
  refine ⟨?_, fun k hk => (key k (Or.inl hk)).2.2⟩
  apply Nat.le_antisymm
  · apply Nat.le_of_not_lt
    intro h
    have := (key m (Or.inl h)).2.1
    omega
  · apply Nat.le_of_not_lt
    intro h
    have := (key n (Or.inr h)).1
    omega
end
section
/-! plain laws, T: the table in which each coin stands at its place or behind it without a gap -/
/-- the place of a name, as the code reckons it -/
def pl_x (id : Int64) : Int32 := (id ^^^ (id.toUInt64 >>> ((32 : Int32).toInt64.toUInt64 &&& Int64.toUInt64 63)).toInt64).toInt32
def pl_i (id : Int64) (ix : Int32) : Int32 := ((pl_x id * 31 + ix * 40503).toUInt32 >>> ((8 : Int32).toUInt32 &&& Int32.toUInt32 31)).toInt32 &&& 1023
def pl (id : Int64) (ix : Int32) : Nat := (pl_i id ix).toNatClampNeg
theorem pl_at (id : Int64) (ix : Int32) : pl id ix < 1024 ∧ pl_i id ix = nI (pl id ix) := by
  obtain ⟨j, h1, h2⟩ := pk_andE ((pl_x id * 31 + ix * 40503).toUInt32 >>> ((8 : Int32).toUInt32 &&& Int32.toUInt32 31)).toInt32 (m := 1023) 10 (by decide)
  have h3 : pl_i id ix = nI j := h2
  have h4 : pl id ix = j := by
    unfold pl
    rw [h3, nI_clamp (by omega)]
  rw [h4]
  exact ⟨by omega, h3⟩
theorem pl_lt (id : Int64) (ix : Int32) : pl id ix < 1024 := (pl_at id ix).1
/-- how far a slot lies behind a place -/
abbrev ds (p x : Nat) : Nat := (x + 1024 - p) % 1024
/-- a coin stands in the table -/
def inT (tb : Nat → Nat) (c : Nat) : Prop := ∃ s, s < 1024 ∧ tb s = c + 1
/-- the place of the coin that stands in a slot -/
abbrev ps (tb : Nat → Nat) (id : Nat → Int64) (ix : Nat → Int32) (s : Nat) : Nat := pl (id (tb s - 1)) (ix (tb s - 1))
/-- what holds of the table -/
def tv (tb : Nat → Nat) (id : Nat → Int64) (ix : Nat → Int32) : Prop :=
  (∀ s, s < 1024 → tb s ≤ 900) ∧ (∀ x y, x < 1024 → y < 1024 → tb x ≠ 0 → tb x = tb y → x = y) ∧
  (∀ x y, x < 1024 → y < 1024 → tb x ≠ 0 → ds (ps tb id ix x) y < ds (ps tb id ix x) x → tb y ≠ 0) ∧
  (∀ c d, inT tb c → inT tb d → id c = id d → ix c = ix d → c = d)
/-- a slot at which the search for a name stops -/
def stp (tb : Nat → Nat) (id : Nat → Int64) (ix : Nat → Int32) (name : Int64) (i : Int32) (s : Nat) : Prop := tb s = 0 ∨ (ix (tb s - 1) = i ∧ id (tb s - 1) = name)
/-- the first of them -/
def slt (tb : Nat → Nat) (id : Nat → Int64) (ix : Nat → Int32) (name : Int64) (i : Int32) (s : Nat) : Prop :=
  s < 1024 ∧ stp tb id ix name i s ∧ ∀ x, x < 1024 → ds (pl name i) x < ds (pl name i) s → ¬ stp tb id ix name i x
theorem tv_lt {tb : Nat → Nat} {id : Nat → Int64} {ix : Nat → Int32} (h : tv tb id ix) {c : Nat} (hc : inT tb c) : c < 900 := by
  obtain ⟨s, h1, h2⟩ := hc
  have := h.1 s h1
  omega
/-- there is an empty slot -/
theorem tv_hole {tb : Nat → Nat} {id : Nat → Int64} {ix : Nat → Int32} (h : tv tb id ix) : ∃ e, e < 1024 ∧ tb e = 0 := by
  apply Classical.byContradiction
  intro hn
  have hp : ∀ s, s < 1024 → tb s ≠ 0 := fun s h1 h2 => hn ⟨s, h1, h2⟩
  have := pg_hole 900 1024 (fun s => tb s - 1) (fun k hk => by
    have a := h.1 k hk
    have b := hp k hk
    show tb k - 1 < 900
    omega) (fun i j hi hj e => by
    have a := hp i hi
    have b := hp j hj
    have e : tb i - 1 = tb j - 1 := e
    exact h.2.1 i j hi hj a (by omega))
  omega
/-- the search finds what is there -/
theorem tv_find {tb : Nat → Nat} {id : Nat → Int64} {ix : Nat → Int32} (h : tv tb id ix) {name : Int64} {i : Int32} {s : Nat} (hs : slt tb id ix name i s) :
    (tb s = 0 ∧ ∀ c, inT tb c → ¬ (id c = name ∧ ix c = i)) ∨ (∃ c, tb s = c + 1 ∧ c < 900 ∧ inT tb c ∧ id c = name ∧ ix c = i) := by
  obtain ⟨h1, h2, h3⟩ := hs
  by_cases h0 : tb s = 0
  · refine Or.inl ⟨h0, ?_⟩
    rintro c ⟨s1, a1, a2⟩ ⟨e1, e2⟩
    have hp : ps tb id ix s1 = pl name i := by
      unfold ps
      rw [a2, Nat.add_sub_cancel, e1, e2]
    have hpl := pl_lt name i
    have b1 : ¬ ds (pl name i) s < ds (pl name i) s1 := by
      intro q
      exact h.2.2.1 s1 s a1 h1 (by omega) (by rw [hp]; exact q) h0
    have b2 : ¬ ds (pl name i) s1 < ds (pl name i) s := by
      intro q
      exact h3 s1 a1 q (Or.inr (by rw [a2, Nat.add_sub_cancel]; exact ⟨e2, e1⟩))
    have : s = s1 := by
      unfold ds at b1 b2
      omega
    rw [this] at h0
    omega
  · rcases h2 with h2 | h2
    · exact absurd h2 h0
    · have := h.1 s h1
      exact Or.inr ⟨tb s - 1, by omega, by omega, ⟨s, h1, by omega⟩, h2.2, h2.1⟩
/-- a new coin -/
theorem tv_put {tb : Nat → Nat} {id : Nat → Int64} {ix : Nat → Int32} {c s : Nat} {name : Int64} {i : Int32} (h : tv tb id ix) (hc : c < 900) (hf : ¬ inT tb c) (hk : ∀ d, inT tb d → ¬ (id d = name ∧ ix d = i))
    (hs : slt tb (vp_updL id c name) (upd ix c i) name i s) :
    tb s = 0 ∧ tv (un tb s (c + 1)) (vp_updL id c name) (upd ix c i) ∧ ∀ d, inT (un tb s (c + 1)) d ↔ (inT tb d ∨ d = c) := by
  have fi : ∀ x, x < 1024 → tb x ≠ 0 → vp_updL id c name (tb x - 1) = id (tb x - 1) ∧ upd ix c i (tb x - 1) = ix (tb x - 1) := by
    intro x hx h0
    have : tb x - 1 ≠ c := fun q => hf ⟨x, hx, by omega⟩
    exact ⟨if_neg this, if_neg this⟩
  have fc : ∀ d, inT tb d → vp_updL id c name d = id d ∧ upd ix c i d = ix d := by
    intro d hd
    have : d ≠ c := fun q => hf (q ▸ hd)
    exact ⟨if_neg this, if_neg this⟩
  have ic : vp_updL id c name c = name ∧ upd ix c i c = i := ⟨if_pos rfl, if_pos rfl⟩
  obtain ⟨h1, h2, h3⟩ := hs
  have h0 : tb s = 0 := by
    rcases h2 with h2 | ⟨h2, h4⟩
    · exact h2
    · apply Classical.byContradiction
      intro h0
      obtain ⟨e1, e2⟩ := fi s h1 h0
      rw [e1] at h4
      rw [e2] at h2
      exact hk (tb s - 1) ⟨s, h1, by omega⟩ ⟨h4, h2⟩
  have hin : ∀ d, inT (un tb s (c + 1)) d ↔ (inT tb d ∨ d = c) := by
    intro d
    constructor
    · rintro ⟨x, hx, e⟩
      by_cases hxs : x = s
      · rw [hxs, un_eq] at e; exact Or.inr (by omega)
      · rw [un_ne hxs] at e; exact Or.inl ⟨x, hx, e⟩
    · rintro (⟨x, hx, e⟩ | rfl)
      · have hxs : x ≠ s := fun q => by rw [q] at e; omega
        exact ⟨x, hx, by rw [un_ne hxs]; exact e⟩
      · exact ⟨s, h1, un_eq⟩
  refine ⟨h0, ⟨fun x hx => ?_, fun x y hx hy hne e => ?_, fun x y hx hy hne hd => ?_, fun a b ha hb e1 e2 => ?_⟩, hin⟩
  · by_cases hxs : x = s
    · rw [hxs, un_eq]; omega
    · rw [un_ne hxs]; exact h.1 x hx
  · by_cases hxs : x = s <;> by_cases hys : y = s
    · omega
    · rw [hxs, un_eq, un_ne hys] at e
      exact absurd ⟨y, hy, e.symm⟩ hf
    · rw [hys, un_eq, un_ne hxs] at e
      exact absurd ⟨x, hx, e⟩ hf
    · rw [un_ne hxs] at hne e
      rw [un_ne hys] at e
      exact h.2.1 x y hx hy hne e
  · by_cases hys : y = s
    · rw [hys, un_eq]; omega
    · rw [un_ne hys]
      by_cases hxs : x = s
      · have hp : ps (un tb s (c + 1)) (vp_updL id c name) (upd ix c i) x = pl name i := by
          unfold ps
          rw [hxs, un_eq, Nat.add_sub_cancel, ic.1, ic.2]
        rw [hp, hxs] at hd
        exact fun q => h3 y hy hd (Or.inl q)
      · rw [un_ne hxs] at hne
        have hp : ps (un tb s (c + 1)) (vp_updL id c name) (upd ix c i) x = ps tb id ix x := by
          unfold ps
          rw [un_ne hxs, (fi x hx hne).1, (fi x hx hne).2]
        rw [hp] at hd
        exact h.2.2.1 x y hx hy hne hd
  · rcases (hin a).mp ha with ha1 | ha1 <;> rcases (hin b).mp hb with hb1 | hb1
    · rw [(fc a ha1).1, (fc b hb1).1] at e1
      rw [(fc a ha1).2, (fc b hb1).2] at e2
      exact h.2.2.2 a b ha1 hb1 e1 e2
    · rw [hb1, (fc a ha1).1, ic.1] at e1
      rw [hb1, (fc a ha1).2, ic.2] at e2
      exact absurd ⟨e1, e2⟩ (hk a ha1)
    · rw [ha1, (fc b hb1).1, ic.1] at e1
      rw [ha1, (fc b hb1).2, ic.2] at e2
      exact absurd ⟨e1.symm, e2.symm⟩ (hk b hb1)
    · rw [ha1, hb1]
/-- what holds at the head of the closing loop: hole h, next slot s, an empty slot e; tb0 the table before, c the coin that goes -/
def dl (tb0 : Nat → Nat) (id : Nat → Int64) (ix : Nat → Int32) (c : Nat) (tb : Nat → Nat) (h s e : Nat) : Prop :=
  (h < 1024 ∧ s < 1024 ∧ e < 1024 ∧ tb e = 0 ∧ tb h ≠ 0 ∧ 1 ≤ ds h s ∧ ds h s ≤ ds h e) ∧
  (∀ x, x < 1024 → tb x ≤ 900) ∧ (∀ x y, x < 1024 → y < 1024 → x ≠ h → y ≠ h → tb x ≠ 0 → tb x = tb y → x = y) ∧
  (∀ x y, x < 1024 → y < 1024 → x ≠ h → tb x ≠ 0 → ds (ps tb id ix x) y < ds (ps tb id ix x) x → tb y ≠ 0) ∧
  (∀ x, x < 1024 → x ≠ h → tb x ≠ 0 → ds (ps tb id ix x) h < ds (ps tb id ix x) x → ds h s ≤ ds h x) ∧
  (∀ d, (∃ x, x < 1024 ∧ x ≠ h ∧ tb x = d + 1) ↔ (inT tb0 d ∧ d ≠ c))
theorem dl_0 {tb : Nat → Nat} {id : Nat → Int64} {ix : Nat → Int32} {c h : Nat} (ht : tv tb id ix) (hh : h < 1024) (hc : tb h = c + 1) : ∃ e, dl tb id ix c tb h ((h + 1) % 1024) e := by
  obtain ⟨e, he, e0⟩ := tv_hole ht
  have hne : e ≠ h := fun q => by rw [q] at e0; omega
  refine ⟨e, ⟨hh, by omega, he, e0, by omega, by unfold ds; omega, by unfold ds; omega⟩, ht.1, fun x y hx hy _ _ => ht.2.1 x y hx hy, fun x y hx hy _ => ht.2.2.1 x y hx hy, fun x hx hxh _ _ => by unfold ds; omega, fun d => ⟨?_, ?_⟩⟩
  · rintro ⟨x, hx, hxh, hd⟩
    refine ⟨⟨x, hx, hd⟩, fun q => hxh ?_⟩
    exact ht.2.1 x h hx hh (by omega) (by omega)
  · rintro ⟨⟨x, hx, hd⟩, hdc⟩
    exact ⟨x, hx, fun q => by rw [q] at hd; omega, hd⟩
theorem dl_stay {tb0 tb : Nat → Nat} {id : Nat → Int64} {ix : Nat → Int32} {c h s e : Nat} (H : dl tb0 id ix c tb h s e) (hs : tb s ≠ 0) (hq : ¬ ds (ps tb id ix s) h < ds (ps tb id ix s) s) : dl tb0 id ix c tb h ((s + 1) % 1024) e := by
  obtain ⟨⟨a1, a2, a3, a4, a5, a6, a7⟩, b1, b2, b3, b4, b5⟩ := H
  have hse : s ≠ e := fun q => by rw [q] at hs; exact hs a4
  refine ⟨⟨a1, by omega, a3, a4, a5, by unfold ds at *; omega, by unfold ds at *; omega⟩, b1, b2, b3, fun x hx hxh hx0 hd => ?_, b5⟩
  have h1 := b4 x hx hxh hx0 hd
  have h2 : x ≠ s := fun q => by rw [q] at hd; exact hq hd
  unfold ds at *
  omega
theorem dl_move {tb0 tb : Nat → Nat} {id : Nat → Int64} {ix : Nat → Int32} {c h s e : Nat} (H : dl tb0 id ix c tb h s e) (hs : tb s ≠ 0) (hq : ds (ps tb id ix s) h < ds (ps tb id ix s) s) : dl tb0 id ix c (un tb h (tb s)) s ((s + 1) % 1024) e := by
  obtain ⟨⟨a1, a2, a3, a4, a5, a6, a7⟩, b1, b2, b3, b4, b5⟩ := H
  have hse : s ≠ e := fun q => by rw [q] at hs; exact hs a4
  have hhe : e ≠ h := fun q => by rw [q] at a4; exact a5 a4
  have hsh : s ≠ h := fun q => by rw [q] at a6; unfold ds at a6; omega
  have nz : ∀ y, y < 1024 → tb y ≠ 0 → un tb h (tb s) y ≠ 0 := by
    intro y hy h0
    by_cases hyh : y = h
    · rw [hyh, un_eq]; exact hs
    · rw [un_ne hyh]; exact h0
  refine ⟨⟨a2, by omega, a3, by rw [un_ne hhe]; exact a4, by rw [un_ne hsh]; exact hs, by unfold ds; omega, by unfold ds at *; omega⟩, fun x hx => ?_, fun x y hx hy hxs hys hx0 exy => ?_, fun x y hx hy hxs hx0 hd => ?_, fun x hx hxs hx0 hd => by unfold ds; omega, fun d => ?_⟩
  · by_cases hxh : x = h
    · rw [hxh, un_eq]; exact b1 s a2
    · rw [un_ne hxh]; exact b1 x hx
  · by_cases hxh : x = h <;> by_cases hyh : y = h
    · omega
    · rw [hxh, un_eq, un_ne hyh] at exy
      exact absurd (b2 s y a2 hy hsh hyh hs exy) (fun q => hys q.symm)
    · rw [hyh, un_eq, un_ne hxh] at exy
      exact absurd (b2 s x a2 hx hsh hxh hs exy.symm) (fun q => hxs q.symm)
    · rw [un_ne hxh] at hx0 exy
      rw [un_ne hyh] at exy
      exact b2 x y hx hy hxh hyh hx0 exy
  · apply nz y hy
    by_cases hxh : x = h
    · have hp : ps (un tb h (tb s)) id ix x = ps tb id ix s := by
        unfold ps
        rw [hxh, un_eq]
      rw [hp, hxh] at hd
      exact b3 s y a2 hy hsh hs (Nat.lt_trans hd hq)
    · have hp : ps (un tb h (tb s)) id ix x = ps tb id ix x := by
        unfold ps
        rw [un_ne hxh]
      rw [un_ne hxh] at hx0
      rw [hp] at hd
      exact b3 x y hx hy hxh hx0 hd
  · rw [← b5 d]
    constructor
    · rintro ⟨x, hx, hxs, hd⟩
      by_cases hxh : x = h
      · rw [hxh, un_eq] at hd; exact ⟨s, a2, hsh, hd⟩
      · rw [un_ne hxh] at hd; exact ⟨x, hx, hxh, hd⟩
    · rintro ⟨x, hx, hxh, hd⟩
      by_cases hxs : x = s
      · exact ⟨h, a1, fun q => hsh q.symm, by rw [un_eq, ← hxs]; exact hd⟩
      · exact ⟨x, hx, hxs, by rw [un_ne hxh]; exact hd⟩
theorem dl_end {tb0 tb : Nat → Nat} {id : Nat → Int64} {ix : Nat → Int32} {c h s e : Nat} (ht : tv tb0 id ix) (H : dl tb0 id ix c tb h s e) (hs : tb s = 0) : tv (un tb h 0) id ix ∧ ∀ d, inT (un tb h 0) d ↔ (inT tb0 d ∧ d ≠ c) := by
  obtain ⟨⟨a1, a2, a3, a4, a5, a6, a7⟩, b1, b2, b3, b4, b5⟩ := H
  have hin : ∀ d, inT (un tb h 0) d ↔ (inT tb0 d ∧ d ≠ c) := by
    intro d
    rw [← b5 d]
    constructor
    · rintro ⟨x, hx, hd⟩
      by_cases hxh : x = h
      · rw [hxh, un_eq] at hd; omega
      · rw [un_ne hxh] at hd; exact ⟨x, hx, hxh, hd⟩
    · rintro ⟨x, hx, hxh, hd⟩
      exact ⟨x, hx, by rw [un_ne hxh]; exact hd⟩
  have nh : ∀ x, un tb h 0 x ≠ 0 → x ≠ h ∧ tb x ≠ 0 := by
    intro x h0
    by_cases hxh : x = h
    · rw [hxh, un_eq] at h0; exact absurd rfl h0
    · rw [un_ne hxh] at h0; exact ⟨hxh, h0⟩
  refine ⟨⟨fun x hx => ?_, fun x y hx hy hx0 exy => ?_, fun x y hx hy hx0 hd => ?_, fun a b ha hb => ht.2.2.2 a b ((hin a).mp ha).1 ((hin b).mp hb).1⟩, hin⟩
  · by_cases hxh : x = h
    · rw [hxh, un_eq]; omega
    · rw [un_ne hxh]; exact b1 x hx
  · have q1 := nh x hx0
    have q2 := nh y (exy ▸ hx0)
    rw [un_ne q1.1, un_ne q2.1] at exy
    exact b2 x y hx hy q1.1 q2.1 q1.2 exy
  · have q1 := nh x hx0
    have hp : ps (un tb h 0) id ix x = ps tb id ix x := by
      unfold ps
      rw [un_ne q1.1]
    rw [hp] at hd
    have hyh : y ≠ h := by
      intro q
      rw [q] at hd
      have h1 := b4 x hx q1.1 q1.2 hd
      have hpl := pl_lt (id (tb x - 1)) (ix (tb x - 1))
      by_cases hxs : x = s
      · rw [hxs] at q1; exact q1.2 hs
      · refine b3 x s hx a2 q1.1 q1.2 ?_ hs
        show ds (pl (id (tb x - 1)) (ix (tb x - 1))) s < ds (pl (id (tb x - 1)) (ix (tb x - 1))) x
        have hd' : ds (pl (id (tb x - 1)) (ix (tb x - 1))) h < ds (pl (id (tb x - 1)) (ix (tb x - 1))) x := hd
        generalize pl (id (tb x - 1)) (ix (tb x - 1)) = P at *
        unfold ds at *
        omega
    rw [un_ne hyh]
    exact b3 x y hx hy q1.1 q1.2 hd
end
section
/-! plain laws, R: what the law's two objects stand for (AS: a row of names with worths, rising), its operations, and how a Coins object holds it (rel) -/
abbrev AS : Type := Nat × (Nat → Int64) × (Nat → Int32) × (Nat → Int32)
/-- the first place from k on, of at most m, at which P fails -/
def fp (P : Nat → Bool) : Nat → Nat → Nat
  | k, 0 => k
  | k, m + 1 => if P k = true then fp P (k + 1) m else k
theorem fp_in (P : Nat → Bool) : ∀ (m k : Nat), k ≤ fp P k m ∧ fp P k m ≤ k + m ∧ (∀ j, k ≤ j → j < fp P k m → P j = true) ∧ (fp P k m < k + m → P (fp P k m) = false) := by
  intro m
  induction m with
  | zero => exact fun k => ⟨Nat.le_refl _, Nat.le_refl _, fun j h1 h2 => absurd h1 (Nat.not_le_of_lt h2), fun h => absurd h (Nat.lt_irrefl _)⟩
  | succ m ih =>
    intro k
    by_cases hP : P k = true
    · have e : fp P k (m + 1) = fp P (k + 1) m := by simp [fp, hP]
      rw [e]
      obtain ⟨h1, h2, h3, h4⟩ := ih (k + 1)
      refine ⟨by omega, by omega, fun j hj1 hj2 => ?_, fun h => h4 (by omega)⟩
      by_cases hjk : j = k
      · rw [hjk]; exact hP
      · exact h3 j (by omega) hj2
    · have e : fp P k (m + 1) = k := by simp [fp, hP]
      rw [e]
      refine ⟨Nat.le_refl _, by omega, fun j hj1 hj2 => by omega, fun _ => by simpa using hP⟩
/-- where a name stands or would stand -/
def a_pl (a : AS) (name : Int64) (i : Int32) : Nat := fp (fun k => decide (kl (a.2.1 k) (a.2.2.1 k) name i)) 0 a.1
theorem a_pl_in (a : AS) (name : Int64) (i : Int32) : a_pl a name i ≤ a.1 ∧ (∀ j, j < a_pl a name i → kl (a.2.1 j) (a.2.2.1 j) name i) ∧ (a_pl a name i < a.1 → ¬ kl (a.2.1 (a_pl a name i)) (a.2.2.1 (a_pl a name i)) name i) := by
  obtain ⟨-, h2, h3, h4⟩ := fp_in (fun k => decide (kl (a.2.1 k) (a.2.2.1 k) name i)) a.1 0
  refine ⟨by unfold a_pl; omega, fun j hj => of_decide_eq_true (h3 j (Nat.zero_le _) hj), fun h => ?_⟩
  exact of_decide_eq_false (h4 (by unfold a_pl at h; omega))
/-- it stands there -/
abbrev a_has (a : AS) (name : Int64) (i : Int32) : Prop := a_pl a name i < a.1 ∧ a.2.1 (a_pl a name i) = name ∧ a.2.2.1 (a_pl a name i) = i
def ins {α : Type} (f : Nat → α) (n at_ : Nat) (x : α) : Nat → α := fun j => if j < at_ then f j else if j = at_ then x else if j ≤ n then f (j - 1) else f j
def del {α : Type} (f : Nat → α) (n at_ : Nat) : Nat → α := fun j => if at_ ≤ j ∧ j + 1 < n then f (j + 1) else f j
theorem ins_lo {α : Type} {f : Nat → α} {n k j : Nat} {x : α} (h : j < k) : ins f n k x j = f j := if_pos h
theorem ins_at {α : Type} {f : Nat → α} {n k : Nat} {x : α} : ins f n k x k = x := by
  unfold ins
  rw [if_neg (Nat.lt_irrefl k), if_pos rfl]
theorem ins_hi {α : Type} {f : Nat → α} {n k j : Nat} {x : α} (h : k < j) (hn : j ≤ n) : ins f n k x j = f (j - 1) := by
  unfold ins
  rw [if_neg (by omega), if_neg (by omega), if_pos hn]
theorem del_lo {α : Type} {f : Nat → α} {n k j : Nat} (h : j < k) : del f n k j = f j := if_neg (by omega)
theorem del_hi {α : Type} {f : Nat → α} {n k j : Nat} (h : k ≤ j) (hn : j + 1 < n) : del f n k j = f (j + 1) := if_pos ⟨h, hn⟩
def a_ins (a : AS) (name : Int64) (i v : Int32) : AS := (a.1 + 1, ins a.2.1 a.1 (a_pl a name i) name, ins a.2.2.1 a.1 (a_pl a name i) i, ins a.2.2.2 a.1 (a_pl a name i) v)
def a_del (a : AS) (k : Nat) : AS := (a.1 - 1, del a.2.1 a.1 k, del a.2.2.1 a.1 k, del a.2.2.2 a.1 k)
/-- the operations: the answer and the row behind it -/
def a_add (a : AS) (name : Int64) (i v : Int32) : Int32 × AS :=
  if i < 0 ∨ 7 < i ∨ v < 0 then (-1, a) else if a_has a name i then (-3, a) else if a.1 = 900 then (-4, a) else (nI (a.1 + 1), a_ins a name i v)
def a_smf (name step : Int64) (v : Int32) : Nat → Nat → Nat → AS → Nat × AS
  | 0, _, did, a => (did, a)
  | m + 1, k, did, a => a_smf name step v m (k + 1) (if 0 < (a_add a (name + (nI k).toInt64 * step) (nI (k % 8)) v).1 then did + 1 else did) (a_add a (name + (nI k).toInt64 * step) (nI (k % 8)) v).2
def a_some (a : AS) (name step : Int64) (n v : Int32) : Int32 × AS :=
  if n < 1 ∨ 100 < n ∨ v < 0 then (-1, a) else (nI (a_smf name step v n.toNatClampNeg 0 0 a).1, (a_smf name step v n.toNatClampNeg 0 0 a).2)
def a_rem (a : AS) (name : Int64) (i : Int32) : Int32 × AS :=
  if i < 0 ∨ 7 < i then (-1, a) else if a_has a name i then (a.2.2.2 (a_pl a name i), a_del a (a_pl a name i)) else (-2, a)
def a_take (a : AS) (k : Int32) : Int32 × AS := if k < 0 ∨ nI a.1 ≤ k then (-2, a) else (a.2.2.2 k.toNatClampNeg, a_del a k.toNatClampNeg)
def a_get (a : AS) (name : Int64) (i : Int32) : Int32 := if i < 0 ∨ 7 < i then -1 else if a_has a name i then a.2.2.2 (a_pl a name i) else -2
def a_name (a : AS) (k : Int32) : Int64 := if k < 0 ∨ nI a.1 ≤ k then 0 else a.2.1 k.toNatClampNeg
def a_index (a : AS) (k : Int32) : Int32 := if k < 0 ∨ nI a.1 ≤ k then -2 else a.2.2.1 k.toNatClampNeg
def a_sum (V : Nat → Int32) : Nat → Int64
  | 0 => 0
  | k + 1 => a_sum V k + (V k).toInt64
/-- the row rises; its numbers are 0 to 7; it isn't too long -/
def as_ok (a : AS) : Prop := a.1 ≤ 900 ∧ (∀ j k, j < k → k < a.1 → kl (a.2.1 j) (a.2.2.1 j) (a.2.1 k) (a.2.2.1 k)) ∧ ∀ k, k < a.1 → 0 ≤ a.2.2.1 k ∧ a.2.2.1 k ≤ 7
theorem a_pl_eq {a : AS} (h : as_ok a) {name : Int64} {i : Int32} {k : Nat} (hk : k < a.1) (h1 : a.2.1 k = name) (h2 : a.2.2.1 k = i) : a_pl a name i = k := by
  obtain ⟨q1, q2, q3⟩ := a_pl_in a name i
  apply Nat.le_antisymm
  · apply Nat.le_of_not_lt
    intro hlt
    have := q2 k hlt
    rw [h1, h2] at this
    exact kl_irr this
  · apply Nat.le_of_not_lt
    intro hlt
    have a1 := q3 (by omega)
    have a2 := h.2.1 _ k hlt hk
    rw [h1, h2] at a2
    exact a1 a2
theorem a_pl_hi {a : AS} (h : as_ok a) {name : Int64} {i : Int32} (hn : ¬ a_has a name i) {k : Nat} (h1 : a_pl a name i ≤ k) (hk : k < a.1) : kl name i (a.2.1 k) (a.2.2.1 k) := by
  obtain ⟨q1, q2, q3⟩ := a_pl_in a name i
  have b1 := q3 (by omega)
  have b2 : kl name i (a.2.1 (a_pl a name i)) (a.2.2.1 (a_pl a name i)) := by
    apply Classical.byContradiction
    intro b3
    obtain ⟨e1, e2⟩ := kl_tot b1 b3
    exact hn ⟨by omega, e1, e2⟩
  by_cases hk2 : k = a_pl a name i
  · rw [hk2]; exact b2
  · exact kl_tr b2 (h.2.1 _ k (by omega) hk)
theorem as_ins {a : AS} (h : as_ok a) {name : Int64} {i v : Int32} (hn : ¬ a_has a name i) (hf : a.1 < 900) (hi : 0 ≤ i ∧ i ≤ 7) : as_ok (a_ins a name i v) := by
  obtain ⟨q1, q2, q3⟩ := a_pl_in a name i
  refine ⟨by show a.1 + 1 ≤ 900; omega, fun j k hjk hk => ?_, fun k hk => ?_⟩
  · have hk : k < a.1 + 1 := hk
    show kl (ins a.2.1 a.1 (a_pl a name i) name j) (ins a.2.2.1 a.1 (a_pl a name i) i j) (ins a.2.1 a.1 (a_pl a name i) name k) (ins a.2.2.1 a.1 (a_pl a name i) i k)
    rcases Nat.lt_trichotomy j (a_pl a name i) with hj | hj | hj
    · rw [ins_lo hj, ins_lo hj]
      rcases Nat.lt_trichotomy k (a_pl a name i) with hk1 | hk1 | hk1
      · rw [ins_lo hk1, ins_lo hk1]; exact h.2.1 j k hjk (by omega)
      · rw [hk1, ins_at, ins_at]; exact q2 j hj
      · rw [ins_hi hk1 (by omega), ins_hi hk1 (by omega)]; exact h.2.1 j (k - 1) (by omega) (by omega)
    · rw [hj, ins_at, ins_at, ins_hi (by omega) (by omega), ins_hi (by omega) (by omega)]
      exact a_pl_hi h hn (by omega) (by omega)
    · rw [ins_hi hj (by omega), ins_hi hj (by omega), ins_hi (by omega) (by omega), ins_hi (by omega) (by omega)]
      exact h.2.1 (j - 1) (k - 1) (by omega) (by omega)
  · have hk : k < a.1 + 1 := hk
    show 0 ≤ ins a.2.2.1 a.1 (a_pl a name i) i k ∧ ins a.2.2.1 a.1 (a_pl a name i) i k ≤ 7
    rcases Nat.lt_trichotomy k (a_pl a name i) with hk1 | hk1 | hk1
    · rw [ins_lo hk1]; exact h.2.2 k (by omega)
    · rw [hk1, ins_at]; exact hi
    · rw [ins_hi hk1 (by omega)]; exact h.2.2 (k - 1) (by omega)
theorem as_del {a : AS} (h : as_ok a) {t : Nat} (ht : t < a.1) : as_ok (a_del a t) := by
  have dd : ∀ {α : Type} (f : Nat → α) (j : Nat), j < a.1 - 1 → del f a.1 t j = f (if j < t then j else j + 1) := by
    intro α f j hj
    by_cases hjt : j < t
    · rw [if_pos hjt]; exact del_lo hjt
    · rw [if_neg hjt]; exact del_hi (by omega) (by omega)
  refine ⟨by have := h.1; show a.1 - 1 ≤ 900; omega, fun j k hjk hk => ?_, fun k hk => ?_⟩
  · have hk : k < a.1 - 1 := hk
    show kl (del a.2.1 a.1 t j) (del a.2.2.1 a.1 t j) (del a.2.1 a.1 t k) (del a.2.2.1 a.1 t k)
    rw [dd a.2.1 j (by omega), dd a.2.2.1 j (by omega), dd a.2.1 k hk, dd a.2.2.1 k hk]
    refine h.2.1 _ _ ?_ ?_
    · split <;> split <;> omega
    · split <;> omega
  · have hk : k < a.1 - 1 := hk
    show 0 ≤ del a.2.2.1 a.1 t k ∧ del a.2.2.1 a.1 t k ≤ 7
    rw [dd a.2.2.1 k hk]
    exact h.2.2 _ (by split <;> omega)
theorem sum_ins (V : Nat → Int32) (n t : Nat) (v : Int32) (ht : t ≤ n) : a_sum (ins V n t v) (n + 1) = a_sum V n + v.toInt64 := by
  have lo : ∀ m, m ≤ t → a_sum (ins V n t v) m = a_sum V m := by
    intro m
    induction m with
    | zero => exact fun _ => rfl
    | succ m ih => intro hm; show a_sum (ins V n t v) m + (ins V n t v m).toInt64 = a_sum V m + (V m).toInt64; rw [ih (by omega), ins_lo (by omega)]
  have hi : ∀ m, t + m ≤ n → a_sum (ins V n t v) (t + m + 1) = a_sum V (t + m) + v.toInt64 := by
    intro m
    induction m with
    | zero => intro _; show a_sum (ins V n t v) t + (ins V n t v t).toInt64 = _; rw [lo t (Nat.le_refl _), ins_at]; rfl
    | succ m ih =>
      intro hm
      show a_sum (ins V n t v) (t + m + 1) + (ins V n t v (t + m + 1)).toInt64 = a_sum V (t + m) + (V (t + m)).toInt64 + v.toInt64
      rw [ih (by omega), ins_hi (by omega) (by omega), Nat.add_sub_cancel, Int64.add_assoc, Int64.add_assoc, Int64.add_comm v.toInt64]
  have := hi (n - t) (by omega)
  rw [show t + (n - t) = n by omega] at this
  exact this
theorem sum_del (V : Nat → Int32) (n t : Nat) (ht : t < n) : a_sum (del V n t) (n - 1) = a_sum V n - (V t).toInt64 := by
  have lo : ∀ m, m ≤ t → a_sum (del V n t) m = a_sum V m := by
    intro m
    induction m with
    | zero => exact fun _ => rfl
    | succ m ih => intro hm; show a_sum (del V n t) m + (del V n t m).toInt64 = a_sum V m + (V m).toInt64; rw [ih (by omega), del_lo (by omega)]
  have hi : ∀ m, t + m + 1 ≤ n → a_sum (del V n t) (t + m) + (V t).toInt64 = a_sum V (t + m + 1) := by
    intro m
    induction m with
    | zero => intro _; show a_sum (del V n t) t + (V t).toInt64 = a_sum V t + (V t).toInt64; rw [lo t (Nat.le_refl _)]
    | succ m ih =>
      intro hm
      show a_sum (del V n t) (t + m) + (del V n t (t + m)).toInt64 + (V t).toInt64 = a_sum V (t + m + 1) + (V (t + m + 1)).toInt64
      rw [← ih (by omega), del_hi (by omega) (by omega), Int64.add_assoc, Int64.add_assoc, Int64.add_comm (V t).toInt64]
  have := hi (n - t - 1) (by omega)
  rw [show t + (n - t - 1) + 1 = n by omega, show t + (n - t - 1) = n - 1 by omega] at this
  rw [← this, Int64.add_sub_cancel]
/-- coin c is the row's k-th -/
abbrev ent (a : AS) (id : Nat → Int64) (ix wo : Nat → Int32) (k c : Nat) : Prop := a.2.1 k = id c ∧ a.2.2.1 k = ix c ∧ a.2.2.2 k = wo c
/-- how a Coins object holds the row -/
def rel (id : Nat → Int64) (ix wo : Nat → Int32) (fr : Nat → Nat) (fm : Nat) (tb : Nat → Nat) (mn : Nat) (vl : Int64) (rw : Nat → Nat) (so : Int32) (a : AS) : Prop :=
  tv tb id ix ∧ (mn = a.1 ∧ fm + a.1 = 900) ∧ ((∀ k, k < fm → fr k < 900 ∧ ¬ inT tb (fr k)) ∧ ∀ j k, j < fm → k < fm → fr j = fr k → j = k) ∧ as_ok a ∧
  ((∀ c, inT tb c → ∃ k, k < a.1 ∧ ent a id ix wo k c) ∧ ∀ k, k < a.1 → ∃ c, inT tb c ∧ ent a id ix wo k c) ∧ vl = a_sum a.2.2.2 a.1 ∧
  (so = 0 ∨ (so = 1 ∧ ∀ k, k < a.1 → inT tb (rw k) ∧ ent a id ix wo k (rw k)))
theorem rel_0 : rel (fun _ => 0) (fun _ => 0) (fun _ => 0) (fun k => 899 - k) 900 (fun _ => 0) 0 0 (fun _ => 0) 0 (0, (fun _ => 0), (fun _ => 0), (fun _ => 0)) := by
  have no : ∀ c, ¬ inT (fun _ => 0) c := by
    rintro c ⟨s, -, h⟩
    have h : 0 = c + 1 := h
    omega
  refine ⟨⟨fun _ _ => Nat.zero_le _, fun x y _ _ h => absurd rfl h, fun x y _ _ h => absurd rfl h, fun c d hc => absurd hc (no c)⟩, ⟨rfl, rfl⟩, ⟨fun k hk => ⟨by show 899 - k < 900; omega, no _⟩, fun j k hj hk e => ?_⟩, ⟨Nat.zero_le _, fun j k _ hk => absurd hk (Nat.not_lt_zero _), fun k hk => absurd hk (Nat.not_lt_zero _)⟩, ⟨fun c hc => absurd hc (no c), fun k hk => absurd hk (Nat.not_lt_zero _)⟩, rfl, Or.inl rfl⟩
  have e : 899 - j = 899 - k := e
  omega
section REL
variable {id : Nat → Int64} {ix wo : Nat → Int32} {fr : Nat → Nat} {fm : Nat} {tb : Nat → Nat} {mn : Nat} {vl : Int64} {rw : Nat → Nat} {so : Int32} {a : AS}
theorem rel_has (h : rel id ix wo fr fm tb mn vl rw so a) {name : Int64} {i : Int32} {c : Nat} (hc : inT tb c) (h1 : id c = name) (h2 : ix c = i) : a_has a name i ∧ ent a id ix wo (a_pl a name i) c := by
  obtain ⟨k, k1, k2, k3, k4⟩ := h.2.2.2.2.1.1 c hc
  have := a_pl_eq h.2.2.2.1 k1 (k2.trans h1) (k3.trans h2)
  rw [this]
  exact ⟨⟨by rw [this]; exact k1, by rw [this]; exact k2.trans h1, by rw [this]; exact k3.trans h2⟩, k2, k3, k4⟩
theorem rel_hasnt (h : rel id ix wo fr fm tb mn vl rw so a) {name : Int64} {i : Int32} (hc : ∀ c, inT tb c → ¬ (id c = name ∧ ix c = i)) : ¬ a_has a name i := by
  rintro ⟨h1, h2, h3⟩
  obtain ⟨c, c1, c2, c3, c4⟩ := h.2.2.2.2.1.2 _ h1
  exact hc c c1 ⟨c2.symm.trans h2, c3.symm.trans h3⟩
theorem rel_num (h : rel id ix wo fr fm tb mn vl rw so a) {c : Nat} (hc : inT tb c) : 0 ≤ ix c ∧ ix c ≤ 7 := by
  obtain ⟨k, k1, k2, k3, k4⟩ := h.2.2.2.2.1.1 c hc
  rw [← k3]
  exact h.2.2.2.1.2.2 k k1
/-- the coin that is next to be used -/
theorem rel_free (h : rel id ix wo fr fm tb mn vl rw so a) (hn : a.1 < 900) : 0 < fm ∧ fm ≤ 900 ∧ fr (fm - 1) < 900 ∧ ¬ inT tb (fr (fm - 1)) := by
  have h1 := h.2.1.2
  obtain ⟨h2, h3⟩ := h.2.2.1.1 (fm - 1) (by omega)
  exact ⟨by omega, by omega, h2, h3⟩
theorem rel_add (h : rel id ix wo fr fm tb mn vl rw so a) {name : Int64} {i v : Int32} (hn : ¬ a_has a name i) (hf : a.1 < 900) (hi : 0 ≤ i ∧ i ≤ 7) {tb' : Nat → Nat}
    (ht : tv tb' (vp_updL id (fr (fm - 1)) name) (upd ix (fr (fm - 1)) i)) (hin : ∀ d, inT tb' d ↔ (inT tb d ∨ d = fr (fm - 1))) :
    rel (vp_updL id (fr (fm - 1)) name) (upd ix (fr (fm - 1)) i) (upd wo (fr (fm - 1)) v) fr (fm - 1) tb' (mn + 1) (vl + v.toInt64) rw 0 (a_ins a name i v) := by
  obtain ⟨f1, f2, f3, f4⟩ := rel_free h hf
  obtain ⟨r1, ⟨r2, r3⟩, ⟨r4, r5⟩, r6, ⟨r7, r8⟩, r9, -⟩ := h
  obtain ⟨q1, q2, q3⟩ := a_pl_in a name i
  generalize hc : fr (fm - 1) = c at *
  have new : vp_updL id c name c = name ∧ upd ix c i c = i ∧ upd wo c v c = v := ⟨if_pos rfl, if_pos rfl, if_pos rfl⟩
  have old : ∀ d, inT tb d → vp_updL id c name d = id d ∧ upd ix c i d = ix d ∧ upd wo c v d = wo d := by
    intro d hd
    have : d ≠ c := fun q => f4 (q ▸ hd)
    exact ⟨if_neg this, if_neg this, if_neg this⟩
  refine ⟨ht, ⟨by show mn + 1 = a.1 + 1; omega, by show fm - 1 + (a.1 + 1) = 900; omega⟩, ⟨fun k hk => ⟨(r4 k (by omega)).1, fun hq => ?_⟩, fun j k hj hk => r5 j k (by omega) (by omega)⟩, as_ins r6 hn hf hi, ⟨fun d hd => ?_, fun k hk => ?_⟩, ?_, Or.inl rfl⟩
  · rcases (hin _).mp hq with hq | hq
    · exact (r4 k (by omega)).2 hq
    · rw [← hc] at hq
      have := r5 k (fm - 1) (by omega) (by omega) hq
      omega
  · rcases (hin d).mp hd with hd | hd
    · obtain ⟨k, k1, k2, k3, k4⟩ := r7 d hd
      obtain ⟨o1, o2, o3⟩ := old d hd
      rw [← o1] at k2; rw [← o2] at k3; rw [← o3] at k4
      by_cases hk : k < a_pl a name i
      · exact ⟨k, by show k < a.1 + 1; omega, (ins_lo hk).trans k2, (ins_lo hk).trans k3, (ins_lo hk).trans k4⟩
      · refine ⟨k + 1, by show k + 1 < a.1 + 1; omega, ?_, ?_, ?_⟩
        · exact (ins_hi (by omega) (by omega)).trans k2
        · exact (ins_hi (by omega) (by omega)).trans k3
        · exact (ins_hi (by omega) (by omega)).trans k4
    · refine ⟨a_pl a name i, by show a_pl a name i < a.1 + 1; omega, ?_, ?_, ?_⟩
      · rw [hd, new.1]; exact ins_at
      · rw [hd, new.2.1]; exact ins_at
      · rw [hd, new.2.2]; exact ins_at
  · have hk : k < a.1 + 1 := hk
    rcases Nat.lt_trichotomy k (a_pl a name i) with hk1 | hk1 | hk1
    · obtain ⟨d, d1, d2, d3, d4⟩ := r8 k (by omega)
      obtain ⟨o1, o2, o3⟩ := old d d1
      exact ⟨d, (hin d).mpr (Or.inl d1), by rw [o1]; exact (ins_lo hk1).trans d2, by rw [o2]; exact (ins_lo hk1).trans d3, by rw [o3]; exact (ins_lo hk1).trans d4⟩
    · refine ⟨c, (hin c).mpr (Or.inr rfl), ?_, ?_, ?_⟩
      · rw [hk1, new.1]; exact ins_at
      · rw [hk1, new.2.1]; exact ins_at
      · rw [hk1, new.2.2]; exact ins_at
    · obtain ⟨d, d1, d2, d3, d4⟩ := r8 (k - 1) (by omega)
      obtain ⟨o1, o2, o3⟩ := old d d1
      exact ⟨d, (hin d).mpr (Or.inl d1), by rw [o1]; exact (ins_hi hk1 (by omega)).trans d2, by rw [o2]; exact (ins_hi hk1 (by omega)).trans d3, by rw [o3]; exact (ins_hi hk1 (by omega)).trans d4⟩
  · rw [r9]; exact (sum_ins _ _ _ _ q1).symm
theorem rel_rem (h : rel id ix wo fr fm tb mn vl rw so a) {c t : Nat} (ht : t < a.1) (hc : inT tb c) (he : ent a id ix wo t c) {tb' : Nat → Nat} (hv : tv tb' id ix) (hin : ∀ d, inT tb' d ↔ (inT tb d ∧ d ≠ c)) :
    rel id ix wo (un fr fm c) (fm + 1) tb' (mn - 1) (vl - (wo c).toInt64) rw 0 (a_del a t) := by
  have hc9 := tv_lt h.1 hc
  obtain ⟨r1, ⟨r2, r3⟩, ⟨r4, r5⟩, r6, ⟨r7, r8⟩, r9, -⟩ := h
  have dd : ∀ {α : Type} (f : Nat → α) (j : Nat), j < a.1 - 1 → del f a.1 t j = f (if j < t then j else j + 1) := by
    intro α f j hj
    by_cases hjt : j < t
    · rw [if_pos hjt]; exact del_lo hjt
    · rw [if_neg hjt]; exact del_hi (by omega) (by omega)
  refine ⟨hv, ⟨by show mn - 1 = a.1 - 1; omega, by show fm + 1 + (a.1 - 1) = 900; omega⟩, ⟨fun k hk => ?_, fun j k hj hk e => ?_⟩, as_del r6 ht, ⟨fun d hd => ?_, fun k hk => ?_⟩, ?_, Or.inl rfl⟩
  · by_cases hkf : k = fm
    · rw [hkf, un_eq]
      exact ⟨hc9, fun q => ((hin c).mp q).2 rfl⟩
    · rw [un_ne hkf]
      exact ⟨(r4 k (by omega)).1, fun q => (r4 k (by omega)).2 ((hin _).mp q).1⟩
  · by_cases hjf : j = fm <;> by_cases hkf : k = fm
    · omega
    · rw [hjf, un_eq, un_ne hkf] at e
      exact absurd (e ▸ hc) (r4 k (by omega)).2
    · rw [hkf, un_eq, un_ne hjf] at e
      exact absurd (e ▸ hc) (r4 j (by omega)).2
    · rw [un_ne hjf, un_ne hkf] at e
      exact r5 j k (by omega) (by omega) e
  · obtain ⟨d1, d2⟩ := (hin d).mp hd
    obtain ⟨k, k1, k2, k3, k4⟩ := r7 d d1
    have hkt : k ≠ t := by
      intro q
      apply d2
      rw [q] at k2 k3
      exact r1.2.2.2 d c d1 hc (k2.symm.trans he.1) (k3.symm.trans he.2.1)
    by_cases hk : k < t
    · refine ⟨k, by show k < a.1 - 1; omega, ?_, ?_, ?_⟩
      · exact (dd _ k (by omega)).trans (by rw [if_pos hk]; exact k2)
      · exact (dd _ k (by omega)).trans (by rw [if_pos hk]; exact k3)
      · exact (dd _ k (by omega)).trans (by rw [if_pos hk]; exact k4)
    · refine ⟨k - 1, by show k - 1 < a.1 - 1; omega, ?_, ?_, ?_⟩
      · exact (dd _ (k - 1) (by omega)).trans (by rw [if_neg (by omega), Nat.sub_add_cancel (by omega)]; exact k2)
      · exact (dd _ (k - 1) (by omega)).trans (by rw [if_neg (by omega), Nat.sub_add_cancel (by omega)]; exact k3)
      · exact (dd _ (k - 1) (by omega)).trans (by rw [if_neg (by omega), Nat.sub_add_cancel (by omega)]; exact k4)
  · have hk : k < a.1 - 1 := hk
    have hj : ∃ j, j = (if k < t then k else k + 1) ∧ j < a.1 ∧ j ≠ t := ⟨_, rfl, by split <;> omega, by split <;> omega⟩
    obtain ⟨j, j1, j2, j3⟩ := hj
    obtain ⟨d, d1, d2, d3, d4⟩ := r8 j j2
    refine ⟨d, (hin d).mpr ⟨d1, fun q => ?_⟩, ?_, ?_, ?_⟩
    · rw [q] at d2 d3
      have e1 := a_pl_eq r6 j2 d2 d3
      have e2 := a_pl_eq r6 ht he.1 he.2.1
      omega
    · exact (dd _ k hk).trans (by rw [← j1]; exact d2)
    · exact (dd _ k hk).trans (by rw [← j1]; exact d3)
    · exact (dd _ k hk).trans (by rw [← j1]; exact d4)
  · rw [r9, ← he.2.2]
    exact (sum_del _ _ _ ht).symm
/-- a sorted row of all the coins is the row -/
theorem rel_sort (h : rel id ix wo fr fm tb mn vl rw so a) {rw2 : Nat → Nat} {n : Nat} (h1 : ∀ c, (∃ k, k < n ∧ rw2 k = c) ↔ inT tb c) (h2 : ∀ i j, i < n → j < n → rw2 i = rw2 j → i = j) (h3 : ∀ i j, i < j → j < n → lc id ix (rw2 i) (rw2 j)) :
    n = a.1 ∧ rel id ix wo fr fm tb mn vl rw2 1 a := by
  obtain ⟨r1, r2, r3, r6, ⟨r7, r8⟩, r9, -⟩ := h
  have ri := ri_eq (α := Int64 × Int32 × Int32) (fun x y => kl x.1 x.2.1 y.1 y.2.1) (fun _ => kl_irr) (fun _ _ _ => kl_tr) (f := fun k => (id (rw2 k), ix (rw2 k), wo (rw2 k))) (g := fun k => (a.2.1 k, a.2.2.1 k, a.2.2.2 k)) (n := n) (m := a.1)
    (fun i j hij hj => by
      have hi : inT tb (rw2 i) := (h1 _).mp ⟨i, by omega, rfl⟩
      have hj2 : inT tb (rw2 j) := (h1 _).mp ⟨j, hj, rfl⟩
      apply Classical.byContradiction
      intro hk
      obtain ⟨e1, e2⟩ := kl_tot hk (h3 i j hij hj)
      have := h2 i j (by omega) hj (r1.2.2.2 _ _ hi hj2 e1 e2)
      omega)
    (fun i j hij hj => r6.2.1 i j hij hj)
    (fun k hk => by
      obtain ⟨l, l1, l2, l3, l4⟩ := r7 (rw2 k) ((h1 _).mp ⟨k, hk, rfl⟩)
      exact ⟨l, l1, by show (a.2.1 l, a.2.2.1 l, a.2.2.2 l) = (id (rw2 k), ix (rw2 k), wo (rw2 k)); rw [l2, l3, l4]⟩)
    (fun k hk => by
      obtain ⟨c, c1, c2, c3, c4⟩ := r8 k hk
      obtain ⟨l, l1, l2⟩ := (h1 c).mpr c1
      exact ⟨l, l1, by show (id (rw2 l), ix (rw2 l), wo (rw2 l)) = (a.2.1 k, a.2.2.1 k, a.2.2.2 k); rw [l2, c2, c3, c4]⟩)
  refine ⟨ri.1, r1, r2, r3, r6, ⟨r7, r8⟩, r9, Or.inr ⟨rfl, fun k hk => ⟨(h1 _).mp ⟨k, by rw [ri.1]; exact hk, rfl⟩, ?_⟩⟩⟩
  have e := ri.2 k (by rw [ri.1]; exact hk)
  have e : (id (rw2 k), ix (rw2 k), wo (rw2 k)) = (a.2.1 k, a.2.2.1 k, a.2.2.2 k) := e
  injection e with e1 e2
  injection e2 with e2 e3
  exact ⟨e1.symm, e2.symm, e3.symm⟩
end REL
end
section
/-! walks, 1: NameTable.in, Coins.place, isIt, slot, get (printed by gen/g10.py) -/
theorem nv_inc (k : Nat) : nI k + Int32.ofInt 1 = nI (k + 1) := nI_1 k
theorem nv_dec (k : Nat) : nI (k + 1) + Int32.ofInt (-1) = nI k := pk_m1 k
theorem nv_msk (k : Nat) (h : k < 2 ^ 31) : nI k &&& nI 1023 = nI (k % 1024) := pk_andN (by omega) 10 (by decide)
theorem nv_sub1 {a : Nat} (h : 1 ≤ a) : nI a - nI 1 = nI (a - 1) := pk_sub h
abbrev rm_NT_in : Room := { frames := 0, cells := 0, slots := 0, locals := 0 }
set_option maxHeartbeats 4000000 in
set_option maxRecDepth 100000 in
/-- in(x, lo, hi) -/
theorem c_NT_in (l : Launch) (D : va_G) (cL cI : ClassId) (x lo hi : Int32) : ct l y_NT_in b_NT_in 3 (some .boolean) rm_NT_in [.int x, .int lo, .int hi] D cL cI [] (fun v (_ : Unit) => ∃ r : Int32, v = some (.int r) ∧ ((r = 1 ∧ lo ≤ x ∧ x ≤ hi) ∨ (r = 0 ∧ ¬ (lo ≤ x ∧ x ≤ hi)))) (fun _ => []) := by
  refine ct_ofW (by decide) (Nat.le_of_ble_eq_true rfl) ?_
  intro p e s m below meth c Q ls hx hb hml hown hts hk hP hD hS hl Rt
  have hown : s.vm.findClass "NameTable" = some m.cls := hown
  have hl : lv_has ls 3 [(0, .int x), (1, .int lo), (2, .int hi)] := hl
  refine lv_iload_n hx hb d_NT_in_0 rfl (lv_at hl 0 rfl) ?_
  refine lv_iload_n hx hb d_NT_in_1 rfl (lv_at hl 1 rfl) ?_
  refine lv_icmp_lt (tgt := 14) hx hb d_NT_in_2 (by decide) (fun h1 => ?_) (fun h1 => ?_)
  · refine lv_iconst (v := 0) hx hb d_NT_in_14 (by decide +kernel) ?_
    exact Rt (some (.int 0)) () _ _ _ _ (rt_z d_NT_in_15 rfl) (⟨0, rfl, Or.inr ⟨rfl, fun h => absurd h1 (Int32.not_lt.mpr h.1)⟩⟩) hP hS
  · refine lv_iload_n hx hb d_NT_in_5 rfl (lv_at hl 0 rfl) ?_
    refine lv_iload_n hx hb d_NT_in_6 rfl (lv_at hl 2 rfl) ?_
    refine lv_icmp_gt (tgt := 14) hx hb d_NT_in_7 (by decide) (fun h2 => ?_) (fun h2 => ?_)
    · refine lv_iconst (v := 0) hx hb d_NT_in_14 (by decide +kernel) ?_
      exact Rt (some (.int 0)) () _ _ _ _ (rt_z d_NT_in_15 rfl) (⟨0, rfl, Or.inr ⟨rfl, fun h => absurd h2 (Int32.not_lt.mpr h.2)⟩⟩) hP hS
    · refine lv_iconst (v := 1) hx hb d_NT_in_10 (by decide +kernel) ?_
      refine lv_goto (tgt := 15) hx hb d_NT_in_11 (by decide) ?_
      exact Rt (some (.int 1)) () _ _ _ _ (rt_z d_NT_in_15 rfl) (⟨1, rfl, Or.inl ⟨rfl, Int32.not_lt.mp h1, Int32.not_lt.mp h2⟩⟩) hP hS

abbrev rm_CO_place : Room := { frames := 0, cells := 0, slots := 0, locals := 0 }
set_option maxHeartbeats 4000000 in
set_option maxRecDepth 100000 in
/-- place(name, i) -/
theorem c_CO_place (l : Launch) (D : va_G) (cL cI : ClassId) (name : Int64) (i : Int32) : ct l y_CO_place b_CO_place 4 (some .int) rm_CO_place [.long name, .int i] D cL cI [] (fun v (_ : Unit) => v = some (.int (nI (pl name i)))) (fun _ => []) := by
  refine ct_ofW (by decide) (Nat.le_of_ble_eq_true rfl) ?_
  intro p e s m below meth c Q ls hx hb hml hown hts hk hP hD hS hl Rt
  have hown : s.vm.findClass "NameTable$Coins" = some m.cls := hown
  have hl : lv_has ls 4 [(0, .long name), (2, .int i)] := hl
  refine lv_lload_n hx hb d_CO_place_0 rfl (lv_at hl 0 rfl) ?_
  refine lv_lload_n hx hb d_CO_place_1 rfl (lv_at hl 0 rfl) ?_
  refine lv_bipush (v := (32 : Int32)) hx hb d_CO_place_2 (by decide +kernel) ?_
  refine lv_lushr (v := (name.toUInt64 >>> ((32 : Int32).toInt64.toUInt64 &&& Int64.toUInt64 63)).toInt64) hx hb d_CO_place_4 rfl ?_
  refine lv_lxor hx hb d_CO_place_5 ?_
  refine lv_l2i (v := (name ^^^ ((name.toUInt64 >>> ((32 : Int32).toInt64.toUInt64 &&& Int64.toUInt64 63)).toInt64)).toInt32) hx hb d_CO_place_6 rfl ?_
  refine lv_istore_n (lv' := [(3, .int ((name ^^^ ((name.toUInt64 >>> ((32 : Int32).toInt64.toUInt64 &&& Int64.toUInt64 63)).toInt64)).toInt32)), (0, .long name), (2, .int i)]) hx hb d_CO_place_7 rfl hl (by decide) rfl (fun ls hl => ?_)
  refine lv_iload_n hx hb d_CO_place_8 rfl (lv_at hl 0 rfl) ?_
  refine lv_bipush (v := (31 : Int32)) hx hb d_CO_place_9 (by decide +kernel) ?_
  refine lv_imul hx hb d_CO_place_11 ?_
  refine lv_iload_n hx hb d_CO_place_12 rfl (lv_at hl 2 rfl) ?_
  refine lv_ldc (v := (40503 : Int32)) hx hb hown (hts _ m_78) d_CO_place_13 ?_
  refine lv_imul hx hb d_CO_place_15 ?_
  refine lv_iadd hx hb d_CO_place_16 ?_
  refine lv_bipush (v := (8 : Int32)) hx hb d_CO_place_17 (by decide +kernel) ?_
  refine lv_iushr (v := (((((name ^^^ ((name.toUInt64 >>> ((32 : Int32).toInt64.toUInt64 &&& Int64.toUInt64 63)).toInt64)).toInt32) * (31 : Int32)) + (i * (40503 : Int32))).toUInt32 >>> ((8 : Int32).toUInt32 &&& Int32.toUInt32 31)).toInt32) hx hb d_CO_place_19 rfl ?_
  refine lv_sipush (v := (1023 : Int32)) hx hb d_CO_place_20 (by decide +kernel) ?_
  refine lv_iand hx hb d_CO_place_23 ?_
  refine lv_repi (nI (pl name i)) ((pl_at name i).2) ?_
  exact Rt (some (.int (nI (pl name i)))) () _ _ _ _ (rt_i d_CO_place_24) (rfl) hP hS

abbrev rm_CO_isIt : Room := { frames := 0, cells := 0, slots := 0, locals := 0 }
set_option maxHeartbeats 4000000 in
set_option maxRecDepth 100000 in
/-- isIt(c0, name, i) -/
theorem c_CO_isIt (l : Launch) (D : va_G) (ad : Nat → Nat) (cL cI : ClassId) (id : Nat → Int64) (ix wo : Nat → Int32) (fr : Nat → Nat) (fm : Nat) (tb : Nat → Nat) (mn : Nat) (vl : Int64) (rw : Nat → Nat) (so : Int32) (c0 : Nat) (name : Int64) (i : Int32) (hc : c0 < 900) : ct l y_CO_isIt b_CO_isIt 5 (some .boolean) rm_CO_isIt [.ref (ad 0), .int (nI c0), .long name, .int i] D cL cI (wC ad cL cI id ix wo fr fm tb mn vl rw so) (fun v (_ : Unit) => ∃ r : Int32, v = some (.int r) ∧ ((r = 1 ∧ ix c0 = i ∧ id c0 = name) ∨ (r = 0 ∧ ¬ (ix c0 = i ∧ id c0 = name)))) (fun _ => (wC ad cL cI id ix wo fr fm tb mn vl rw so)) := by
  refine ct_ofW (by decide) (Nat.le_of_ble_eq_true rfl) ?_
  intro p e s m below meth c Q ls hx hb hml hown hts hk hP hD hS hl Rt
  have hown : s.vm.findClass "NameTable$Coins" = some m.cls := hown
  have hl : lv_has ls 5 [(0, .ref (ad 0)), (1, .int (nI c0)), (2, .long name), (4, .int i)] := hl
  refine lv_aload_n hx hb d_CO_isIt_0 rfl (lv_at hl 0 rfl) ?_
  refine va_get (D := D) (ci := 1) (v := .ref (ad 2)) (C := R_CO) (T := F_CO) (N := 10) hx hb hts in_CO hown hk.1 hP 0 rfl rfl 1 (by decide) (hts _ m_20) (fun _ h9 => h9) rfl d_CO_isIt_1 ?_
  refine lv_iload_n hx hb d_CO_isIt_4 rfl (lv_at hl 1 rfl) ?_
  refine xi_ald hx hb hk.1 hP 2 1 rfl rfl c0 (ix c0) (rfl) (hc) (by decide) (rfl) d_CO_isIt_5 ?_
  refine lv_iload hx hb d_CO_isIt_6 (lv_at hl 3 rfl) ?_
  refine lv_icmp_ne (tgt := 26) hx hb d_CO_isIt_8 (by decide) (fun h1 => ?_) (fun h1 => ?_)
  · refine lv_iconst (v := 0) hx hb d_CO_isIt_26 (by decide +kernel) ?_
    exact Rt (some (.int 0)) () _ _ _ _ (rt_z d_CO_isIt_27 rfl) (⟨0, rfl, Or.inr ⟨rfl, fun h => h1 h.1⟩⟩) hP hS
  · refine lv_aload_n hx hb d_CO_isIt_11 rfl (lv_at hl 0 rfl) ?_
    refine va_get (D := D) (ci := 1) (v := .ref (ad 1)) (C := R_CO) (T := F_CO) (N := 10) hx hb hts in_CO hown hk.1 hP 0 rfl rfl 0 (by decide) (hts _ m_18) (fun _ h9 => h9) rfl d_CO_isIt_12 ?_
    refine lv_iload_n hx hb d_CO_isIt_15 rfl (lv_at hl 1 rfl) ?_
    refine xl_ald hx hb hk.1 hP 1 0 rfl rfl c0 (id c0) (rfl) (hc) (by decide) (rfl) d_CO_isIt_16 ?_
    refine lv_lload_n hx hb d_CO_isIt_17 rfl (lv_at hl 2 rfl) ?_
    refine W.lcmp hx hb d_CO_isIt_18 ?_
    refine lv_if_ne (tgt := 26) hx hb d_CO_isIt_19 (by decide) (fun h2 => ?_) (fun h2 => ?_)
    · refine lv_iconst (v := 0) hx hb d_CO_isIt_26 (by decide +kernel) ?_
      exact Rt (some (.int 0)) () _ _ _ _ (rt_z d_CO_isIt_27 rfl) (⟨0, rfl, Or.inr ⟨rfl, fun h => h2 ((lg_cmp_eq _ _).mpr h.2)⟩⟩) hP hS
    · refine lv_iconst (v := 1) hx hb d_CO_isIt_22 (by decide +kernel) ?_
      refine lv_goto (tgt := 27) hx hb d_CO_isIt_23 (by decide) ?_
      exact Rt (some (.int 1)) () _ _ _ _ (rt_z d_CO_isIt_27 rfl) (⟨1, rfl, Or.inl ⟨rfl, h1, (lg_cmp_eq _ _).mp h2⟩⟩) hP hS

abbrev rm_CO_slot : Room := { frames := 1, cells := 0, slots := 0, locals := 24 }
set_option maxHeartbeats 4000000 in
set_option maxRecDepth 100000 in
/-- slot(name, i): the first slot at which the search stops -/
theorem c_CO_slot (l : Launch) (D : va_G) (ad : Nat → Nat) (cL cI : ClassId) (id : Nat → Int64) (ix wo : Nat → Int32) (fr : Nat → Nat) (fm : Nat) (tb : Nat → Nat) (mn : Nat) (vl : Int64) (rw : Nat → Nat) (so : Int32) (name : Int64) (i : Int32) (ht : ∀ x, x < 1024 → tb x ≤ 900) (he : ∃ e0, e0 < 1024 ∧ tb e0 = 0) : ct l y_CO_slot b_CO_slot 5 (some .int) rm_CO_slot [.ref (ad 0), .long name, .int i] D cL cI (wC ad cL cI id ix wo fr fm tb mn vl rw so) (fun v (_ : Unit) => ∃ s : Nat, v = some (.int (nI s)) ∧ slt tb id ix name i s) (fun _ => (wC ad cL cI id ix wo fr fm tb mn vl rw so)) := by
  refine ct_ofW (by decide) (Nat.le_of_ble_eq_true rfl) ?_
  intro p e s m below meth c Q ls hx hb hml hown hts hk hP hD hS hl Rt
  have hown : s.vm.findClass "NameTable$Coins" = some m.cls := hown
  have hl : lv_has ls 5 [(0, .ref (ad 0)), (1, .long name), (3, .int i)] := hl
  have hpl := pl_lt name i
  obtain ⟨e0, he1, he2⟩ := he
  refine lv_lload_n hx hb d_CO_slot_0 rfl (lv_at hl 1 rfl) ?_
  refine lv_iload_n hx hb d_CO_slot_1 rfl (lv_at hl 2 rfl) ?_
  refine ct_callS (As := [.long name, .int i]) (rest := []) hx hb hml hown hts hk (c_CO_place l D cL cI name i) 2 m_77 m_2 m_75 m_76 (by decide +kernel) ⟨Nat.le_of_ble_eq_true rfl, Nat.le_of_ble_eq_true rfl⟩ ⟨rfl, rfl⟩ rfl hl.1 rfl (Nat.le_of_ble_eq_true rfl) d_CO_slot_2 ⟨Nat.le_of_ble_eq_true rfl, Nat.le_of_ble_eq_true rfl⟩ hP hD hS (fun v H locs hv hP hS => ?_)
  subst hv
  refine W.eq (g2 := F0 m 5 ls [.int (nI (pl name i))]) rfl ?_
  refine lv_istore (lv' := [(4, .int (nI (pl name i))), (0, .ref (ad 0)), (1, .long name), (3, .int i)]) hx hb d_CO_slot_5 hl (by decide) rfl (fun ls hl => ?_)
  have hl := lv_sub hl (l' := [(0, .ref (ad 0)), (1, .long name), (3, .int i), (4, .int (nI (pl name i)))]) [1, 2, 3, 0] rfl
  have loop : ∀ (k z : Nat) (ls : Array Slot) (H : Heap) (locs : List Loc), ds z e0 = k → z < 1024 → (∀ x, x < 1024 → ds (pl name i) x < ds (pl name i) z → ¬ stp tb id ix name i x) → lv_has ls 5 [(0, .ref (ad 0)), (1, .long name), (3, .int i), (4, .int (nI z))] → va_P D classes (wC ad cL cI id ix wo fr fm tb mn vl rw so) H → va_S (ad_ (wC ad cL cI id ix wo fr fm tb mn vl rw so)) s.heap H locs → W p l e rm_CO_slot s m (List.toArray [.ref (ad 0), .long name, .int i]) below meth c H locs 0 0 Q (F0 m 7 ls []) := by
    intro k
    induction k using Nat.strongRecOn with
    | _ k ih =>
      intro z ls H locs hkz hz hno hl hP hS
      have htz := ht z hz
      refine lv_aload_n hx hb d_CO_slot_7 rfl (lv_at hl 0 rfl) ?_
      refine va_get (D := D) (ci := 1) (v := .ref (ad 5)) (C := R_CO) (T := F_CO) (N := 10) hx hb hts in_CO hown hk.1 hP 0 rfl rfl 5 (by decide) (hts _ m_26) (fun _ h9 => h9) rfl d_CO_slot_8 ?_
      refine lv_iload hx hb d_CO_slot_11 (lv_at hl 3 rfl) ?_
      refine xi_ald hx hb hk.1 hP 5 1 rfl rfl z (nI (tb z)) (rfl) (hz) (by decide) (rfl) d_CO_slot_13 ?_
      refine lv_if_eq (tgt := 48) hx hb d_CO_slot_14 (by decide) (fun h1 => ?_) (fun h1 => ?_)
      · have h1 : tb z = 0 := (nI_eq (by omega) (by decide)).mp h1
        refine lv_iload hx hb d_CO_slot_48 (lv_at hl 3 rfl) ?_
        exact Rt (some (.int (nI z))) () _ _ _ _ (rt_i d_CO_slot_50) (⟨z, rfl, hz, Or.inl h1, hno⟩) hP hS
      · have h1 : tb z ≠ 0 := fun q => h1 (by rw [q]; exact nI_0)
        refine lv_aload_n hx hb d_CO_slot_17 rfl (lv_at hl 0 rfl) ?_
        refine lv_aload_n hx hb d_CO_slot_18 rfl (lv_at hl 0 rfl) ?_
        refine va_get (D := D) (ci := 1) (v := .ref (ad 5)) (C := R_CO) (T := F_CO) (N := 10) hx hb hts in_CO hown hk.1 hP 0 rfl rfl 5 (by decide) (hts _ m_26) (fun _ h9 => h9) rfl d_CO_slot_19 ?_
        refine lv_iload hx hb d_CO_slot_22 (lv_at hl 3 rfl) ?_
        refine xi_ald hx hb hk.1 hP 5 1 rfl rfl z (nI (tb z)) (rfl) (hz) (by decide) (rfl) d_CO_slot_24 ?_
        refine lv_iconst (v := nI 1) hx hb d_CO_slot_25 (by decide +kernel) ?_
        refine lv_isub hx hb d_CO_slot_26 ?_
        refine lv_repi (nI (tb z - 1)) (nv_sub1 (by omega)) ?_
        refine lv_lload_n hx hb d_CO_slot_27 rfl (lv_at hl 1 rfl) ?_
        refine lv_iload_n hx hb d_CO_slot_28 rfl (lv_at hl 2 rfl) ?_
        refine ct_callV (w1 := []) (wc := (wC ad cL cI id ix wo fr fm tb mn vl rw so)) (w2 := []) (As := [.int (nI (tb z - 1)), .long name, .int i]) (rest := []) hx hb hml hown hts hk (c_CO_isIt l D ad cL cI id ix wo fr fm tb mn vl rw so (tb z - 1) name i (by omega)) 3 m_82 m_2 m_79 m_81 s_CO_isIt (by decide +kernel) ⟨Nat.le_of_ble_eq_true rfl, Nat.le_of_ble_eq_true rfl⟩ ⟨rfl, rfl⟩ rfl rfl rfl hl.1 rfl (Nat.le_of_ble_eq_true rfl) d_CO_slot_29 ⟨Nat.le_of_ble_eq_true rfl, Nat.le_of_ble_eq_true rfl⟩ hP hD hS (fun _ => rfl) (fun v u H locs hv hP hD hS => ?_)
        obtain ⟨r, rfl, hr⟩ := hv
        refine W.eq (g2 := F0 m 32 ls [.int r]) rfl ?_
        refine lv_if_ne (tgt := 48) hx hb d_CO_slot_32 (by decide) (fun h2 => ?_) (fun h2 => ?_)
        · have h3 : ix (tb z - 1) = i ∧ id (tb z - 1) = name := by
            rcases hr with ⟨-, q⟩ | ⟨q, -⟩
            · exact q
            · exact absurd q h2
          refine lv_iload hx hb d_CO_slot_48 (lv_at hl 3 rfl) ?_
          exact Rt (some (.int (nI z))) () _ _ _ _ (rt_i d_CO_slot_50) (⟨z, rfl, hz, Or.inr h3, hno⟩) hP hS
        · have h3 : ¬ (ix (tb z - 1) = i ∧ id (tb z - 1) = name) := by
            rcases hr with ⟨q, -⟩ | ⟨-, q⟩
            · rw [h2] at q; exact absurd q (by decide)
            · exact q
          have hze : z ≠ e0 := fun q => h1 (by rw [q]; exact he2)
          refine lv_iload hx hb d_CO_slot_35 (lv_at hl 3 rfl) ?_
          refine lv_iconst (v := nI 1) hx hb d_CO_slot_37 (by decide +kernel) ?_
          refine lv_iadd hx hb d_CO_slot_38 ?_
          refine lv_repi (nI (z + 1)) (nI_1 _) ?_
          refine lv_sipush (v := nI 1023) hx hb d_CO_slot_39 (by decide +kernel) ?_
          refine lv_iand hx hb d_CO_slot_42 ?_
          refine lv_repi (nI ((z + 1) % 1024)) (nv_msk _ (by omega)) ?_
          refine lv_istore (lv' := [(4, .int (nI ((z + 1) % 1024))), (0, .ref (ad 0)), (1, .long name), (3, .int i)]) hx hb d_CO_slot_43 hl (by decide) rfl (fun ls hl => ?_)
          refine lv_goto (tgt := 7) hx hb d_CO_slot_45 (by decide) ?_
          have hl := lv_sub hl (l' := [(0, .ref (ad 0)), (1, .long name), (3, .int i), (4, .int (nI ((z + 1) % 1024)))]) [1, 2, 3, 0] rfl
          refine ih (ds ((z + 1) % 1024) e0) (by unfold ds at *; omega) ((z + 1) % 1024) ls H locs rfl (by omega) (fun x hx hd => ?_) hl hP hS
          by_cases hxz : x = z
          · rw [hxz]
            rintro (q | q)
            · exact h1 q
            · exact h3 q
          · exact hno x hx (by unfold ds at *; omega)
  exact loop _ (pl name i) ls H locs rfl hpl (fun x hx hd => absurd hd (by unfold ds; omega)) hl hP hS

abbrev rm_CO_get : Room := { frames := 2, cells := 0, slots := 0, locals := 48 }
set_option maxHeartbeats 4000000 in
set_option maxRecDepth 100000 in
/-- get(name, i): the coin of that name, or -1 -/
theorem c_CO_get (l : Launch) (D : va_G) (ad : Nat → Nat) (cL cI : ClassId) (id : Nat → Int64) (ix wo : Nat → Int32) (fr : Nat → Nat) (fm : Nat) (tb : Nat → Nat) (mn : Nat) (vl : Int64) (rw : Nat → Nat) (so : Int32) (name : Int64) (i : Int32) (ht : tv tb id ix) : ct l y_CO_get b_CO_get 4 (some .int) rm_CO_get [.ref (ad 0), .long name, .int i] D cL cI (wC ad cL cI id ix wo fr fm tb mn vl rw so) (fun v (_ : Unit) => ∃ r : Int32, v = some (.int r) ∧ ((∃ c0, r = nI c0 ∧ c0 < 900 ∧ inT tb c0 ∧ id c0 = name ∧ ix c0 = i) ∨ (r = -1 ∧ ∀ c0, inT tb c0 → ¬ (id c0 = name ∧ ix c0 = i)))) (fun _ => (wC ad cL cI id ix wo fr fm tb mn vl rw so)) := by
  refine ct_ofW (by decide) (Nat.le_of_ble_eq_true rfl) ?_
  intro p e s m below meth c Q ls hx hb hml hown hts hk hP hD hS hl Rt
  have hown : s.vm.findClass "NameTable$Coins" = some m.cls := hown
  have hl : lv_has ls 4 [(0, .ref (ad 0)), (1, .long name), (3, .int i)] := hl
  refine lv_aload_n hx hb d_CO_get_0 rfl (lv_at hl 0 rfl) ?_
  refine va_get (D := D) (ci := 1) (v := .ref (ad 5)) (C := R_CO) (T := F_CO) (N := 10) hx hb hts in_CO hown hk.1 hP 0 rfl rfl 5 (by decide) (hts _ m_26) (fun _ h9 => h9) rfl d_CO_get_1 ?_
  refine lv_aload_n hx hb d_CO_get_4 rfl (lv_at hl 0 rfl) ?_
  refine lv_lload_n hx hb d_CO_get_5 rfl (lv_at hl 1 rfl) ?_
  refine lv_iload_n hx hb d_CO_get_6 rfl (lv_at hl 2 rfl) ?_
  refine ct_callV (w1 := []) (wc := (wC ad cL cI id ix wo fr fm tb mn vl rw so)) (w2 := []) (As := [.long name, .int i]) (rest := [.ref (ad 5)]) hx hb hml hown hts hk (c_CO_slot l D ad cL cI id ix wo fr fm tb mn vl rw so name i ht.1 (tv_hole ht)) 2 m_74 m_2 m_71 m_73 s_CO_slot (by decide +kernel) ⟨Nat.le_of_ble_eq_true rfl, Nat.le_of_ble_eq_true rfl⟩ ⟨rfl, rfl⟩ rfl rfl rfl hl.1 rfl (Nat.le_of_ble_eq_true rfl) d_CO_get_7 ⟨Nat.le_of_ble_eq_true rfl, Nat.le_of_ble_eq_true rfl⟩ hP hD hS (fun _ => rfl) (fun v u H locs hv hP hD hS => ?_)
  obtain ⟨z, rfl, hz⟩ := hv
  refine W.eq (g2 := F0 m 10 ls [.int (nI z), .ref (ad 5)]) rfl ?_
  refine xi_ald hx hb hk.1 hP 5 1 rfl rfl z (nI (tb z)) (rfl) (hz.1) (by decide) (rfl) d_CO_get_10 ?_
  refine lv_iconst (v := nI 1) hx hb d_CO_get_11 (by decide +kernel) ?_
  refine lv_isub hx hb d_CO_get_12 ?_
  rcases tv_find ht hz with ⟨q1, q2⟩ | ⟨c0, q1, q2, q3, q4, q5⟩
  · refine lv_repi (-1) (by rw [q1]; decide +kernel) ?_
    exact Rt (some (.int (-1))) () _ _ _ _ (rt_i d_CO_get_13) (⟨-1, rfl, Or.inr ⟨rfl, q2⟩⟩) hP hS
  · refine lv_repi (nI c0) (by rw [q1]; exact nv_sub1 (by omega)) ?_
    exact Rt (some (.int (nI c0))) () _ _ _ _ (rt_i d_CO_get_13) (⟨nI c0, rfl, Or.inl ⟨c0, rfl, q2, q3, q4, q5⟩⟩) hP hS
end
section
/-! walks, 2: Coins.add, Coins.remove (printed by gen/g11.py) -/
abbrev rm_CO_add : Room := { frames := 2, cells := 0, slots := 0, locals := 48 }
set_option maxHeartbeats 4000000 in
set_option maxRecDepth 100000 in
/-- add(name, i, v0): the next free coin takes the name and comes into the table -/
theorem c_CO_add (l : Launch) (D : va_G) (ad : Nat → Nat) (cL cI : ClassId) (id : Nat → Int64) (ix wo : Nat → Int32) (fr : Nat → Nat) (fm : Nat) (tb : Nat → Nat) (mn : Nat) (vl : Int64) (rw : Nat → Nat) (so : Int32) (name : Int64) (i v0 : Int32) (ht : tv tb id ix) (hf1 : 0 < fm) (hf2 : fm ≤ 900) (hc : fr (fm - 1) < 900) (hf : ¬ inT tb (fr (fm - 1))) (hn : ∀ d, inT tb d → ¬ (id d = name ∧ ix d = i)) : ct l y_CO_add b_CO_add 6 (none) rm_CO_add [.ref (ad 0), .long name, .int i, .int v0] D cL cI (wC ad cL cI id ix wo fr fm tb mn vl rw so) (fun v (t : Nat → Nat) => v = none ∧ tv t (vp_updL id (fr (fm - 1)) name) (upd ix (fr (fm - 1)) i) ∧ ∀ d, inT t d ↔ (inT tb d ∨ d = fr (fm - 1))) (fun t => (wC ad cL cI (vp_updL id (fr (fm - 1)) name) (upd ix (fr (fm - 1)) i) (upd wo (fr (fm - 1)) v0) fr (fm - 1) t (mn + 1) (vl + v0.toInt64) rw 0)) := by
  refine ct_ofW (by decide) (Nat.le_of_ble_eq_true rfl) ?_
  intro p e s m below meth c Q ls hx hb hml hown hts hk hP hD hS hl Rt
  have hown : s.vm.findClass "NameTable$Coins" = some m.cls := hown
  have hl : lv_has ls 6 [(0, .ref (ad 0)), (1, .long name), (3, .int i), (4, .int v0)] := hl
  refine lv_aload_n hx hb d_CO_add_0 rfl (lv_at hl 0 rfl) ?_
  refine lv_dup hx hb d_CO_add_1 rfl ?_
  refine va_get (D := D) (ci := 1) (v := .int (nI fm)) (C := R_CO) (T := F_CO) (N := 10) hx hb hts in_CO hown hk.1 hP 0 rfl rfl 4 (by decide) (hts _ m_25) (fun _ h9 => h9) rfl d_CO_add_2 ?_
  refine lv_iconst (v := nI 1) hx hb d_CO_add_5 (by decide +kernel) ?_
  refine lv_isub hx hb d_CO_add_6 ?_
  refine lv_repi (nI (fm - 1)) (nv_sub1 hf1) ?_
  refine va_put (D := D) (ci := 1) (v := .int (nI (fm - 1))) (ty := .int) (C := R_CO) (T := F_CO) (N := 10) hx hb hts in_CO t_CO t_CO_ok n_CO hown hk.1 hP hD hS 0 rfl rfl 4 (by decide) (hts _ m_25) (fun _ h9 => h9) rfl (by decide +kernel) rfl rfl (Nat.le_of_ble_eq_true rfl) d_CO_add_7 (fun H locs hP hD hS => ?_)
  have hP : va_P D classes (wC ad cL cI id ix wo fr (fm - 1) tb mn vl rw so) H := hP
  have hD : va_D _ (wC ad cL cI id ix wo fr (fm - 1) tb mn vl rw so) := hD
  refine lv_aload_n hx hb d_CO_add_10 rfl (lv_at hl 0 rfl) ?_
  refine va_get (D := D) (ci := 1) (v := .ref (ad 4)) (C := R_CO) (T := F_CO) (N := 10) hx hb hts in_CO hown hk.1 hP 0 rfl rfl 3 (by decide) (hts _ m_24) (fun _ h9 => h9) rfl d_CO_add_11 ?_
  refine lv_aload_n hx hb d_CO_add_14 rfl (lv_at hl 0 rfl) ?_
  refine va_get (D := D) (ci := 1) (v := .int (nI (fm - 1))) (C := R_CO) (T := F_CO) (N := 10) hx hb hts in_CO hown hk.1 hP 0 rfl rfl 4 (by decide) (hts _ m_25) (fun _ h9 => h9) rfl d_CO_add_15 ?_
  refine xi_ald hx hb hk.1 hP 4 1 rfl rfl (fm - 1) (nI (fr (fm - 1))) (rfl) (by omega) (by decide) (rfl) d_CO_add_18 ?_
  refine lv_istore (lv' := [(5, .int (nI (fr (fm - 1)))), (0, .ref (ad 0)), (1, .long name), (3, .int i), (4, .int v0)]) hx hb d_CO_add_19 hl (by decide) rfl (fun ls hl => ?_)
  refine lv_aload_n hx hb d_CO_add_21 rfl (lv_at hl 1 rfl) ?_
  refine va_get (D := D) (ci := 1) (v := .ref (ad 1)) (C := R_CO) (T := F_CO) (N := 10) hx hb hts in_CO hown hk.1 hP 0 rfl rfl 0 (by decide) (hts _ m_18) (fun _ h9 => h9) rfl d_CO_add_22 ?_
  refine lv_iload hx hb d_CO_add_25 (lv_at hl 0 rfl) ?_
  refine lv_lload_n hx hb d_CO_add_27 rfl (lv_at hl 2 rfl) ?_
  refine xl_ast hx hb hk.1 hP hD hS 1 0 rfl rfl (fr (fm - 1)) (vp_updL id (fr (fm - 1)) name) (rfl) (hc) (by decide) (rfl) d_CO_add_28 (fun H locs hP hD hS => ?_)
  have hP : va_P D classes (wC ad cL cI (vp_updL id (fr (fm - 1)) name) ix wo fr (fm - 1) tb mn vl rw so) H := hP
  have hD : va_D _ (wC ad cL cI (vp_updL id (fr (fm - 1)) name) ix wo fr (fm - 1) tb mn vl rw so) := hD
  refine lv_aload_n hx hb d_CO_add_29 rfl (lv_at hl 1 rfl) ?_
  refine va_get (D := D) (ci := 1) (v := .ref (ad 2)) (C := R_CO) (T := F_CO) (N := 10) hx hb hts in_CO hown hk.1 hP 0 rfl rfl 1 (by decide) (hts _ m_20) (fun _ h9 => h9) rfl d_CO_add_30 ?_
  refine lv_iload hx hb d_CO_add_33 (lv_at hl 0 rfl) ?_
  refine lv_iload_n hx hb d_CO_add_35 rfl (lv_at hl 3 rfl) ?_
  refine xi_ast hx hb hk.1 hP hD hS 2 1 rfl rfl (fr (fm - 1)) (upd ix (fr (fm - 1)) i) (rfl) (hc) (by decide) (rfl) d_CO_add_36 (fun H locs hP hD hS => ?_)
  have hP : va_P D classes (wC ad cL cI (vp_updL id (fr (fm - 1)) name) (upd ix (fr (fm - 1)) i) wo fr (fm - 1) tb mn vl rw so) H := hP
  have hD : va_D _ (wC ad cL cI (vp_updL id (fr (fm - 1)) name) (upd ix (fr (fm - 1)) i) wo fr (fm - 1) tb mn vl rw so) := hD
  refine lv_aload_n hx hb d_CO_add_37 rfl (lv_at hl 1 rfl) ?_
  refine va_get (D := D) (ci := 1) (v := .ref (ad 3)) (C := R_CO) (T := F_CO) (N := 10) hx hb hts in_CO hown hk.1 hP 0 rfl rfl 2 (by decide) (hts _ m_22) (fun _ h9 => h9) rfl d_CO_add_38 ?_
  refine lv_iload hx hb d_CO_add_41 (lv_at hl 0 rfl) ?_
  refine lv_iload hx hb d_CO_add_43 (lv_at hl 4 rfl) ?_
  refine xi_ast hx hb hk.1 hP hD hS 3 1 rfl rfl (fr (fm - 1)) (upd wo (fr (fm - 1)) v0) (rfl) (hc) (by decide) (rfl) d_CO_add_45 (fun H locs hP hD hS => ?_)
  have hP : va_P D classes (wC ad cL cI (vp_updL id (fr (fm - 1)) name) (upd ix (fr (fm - 1)) i) (upd wo (fr (fm - 1)) v0) fr (fm - 1) tb mn vl rw so) H := hP
  have hD : va_D _ (wC ad cL cI (vp_updL id (fr (fm - 1)) name) (upd ix (fr (fm - 1)) i) (upd wo (fr (fm - 1)) v0) fr (fm - 1) tb mn vl rw so) := hD
  refine lv_aload_n hx hb d_CO_add_46 rfl (lv_at hl 1 rfl) ?_
  refine va_get (D := D) (ci := 1) (v := .ref (ad 5)) (C := R_CO) (T := F_CO) (N := 10) hx hb hts in_CO hown hk.1 hP 0 rfl rfl 5 (by decide) (hts _ m_26) (fun _ h9 => h9) rfl d_CO_add_47 ?_
  refine lv_aload_n hx hb d_CO_add_50 rfl (lv_at hl 1 rfl) ?_
  refine lv_lload_n hx hb d_CO_add_51 rfl (lv_at hl 2 rfl) ?_
  refine lv_iload_n hx hb d_CO_add_52 rfl (lv_at hl 3 rfl) ?_
  refine ct_callV (w1 := []) (wc := (wC ad cL cI (vp_updL id (fr (fm - 1)) name) (upd ix (fr (fm - 1)) i) (upd wo (fr (fm - 1)) v0) fr (fm - 1) tb mn vl rw so)) (w2 := []) (As := [.long name, .int i]) (rest := [.ref (ad 5)]) hx hb hml hown hts hk (c_CO_slot l D ad cL cI (vp_updL id (fr (fm - 1)) name) (upd ix (fr (fm - 1)) i) (upd wo (fr (fm - 1)) v0) fr (fm - 1) tb mn vl rw so name i ht.1 (tv_hole ht)) 2 m_74 m_2 m_71 m_73 s_CO_slot (by decide +kernel) ⟨Nat.le_of_ble_eq_true rfl, Nat.le_of_ble_eq_true rfl⟩ ⟨rfl, rfl⟩ rfl rfl rfl hl.1 rfl (Nat.le_of_ble_eq_true rfl) d_CO_add_53 ⟨Nat.le_of_ble_eq_true rfl, Nat.le_of_ble_eq_true rfl⟩ hP hD hS (fun _ => rfl) (fun v u H locs hv hP hD hS => ?_)
  obtain ⟨z, rfl, hz⟩ := hv
  refine W.eq (g2 := F0 m 56 ls [.int (nI z), .ref (ad 5)]) rfl ?_
  obtain ⟨-, q2, q3⟩ := tv_put ht hc hf hn hz
  refine lv_iload hx hb d_CO_add_56 (lv_at hl 0 rfl) ?_
  refine lv_iconst (v := nI 1) hx hb d_CO_add_58 (by decide +kernel) ?_
  refine lv_iadd hx hb d_CO_add_59 ?_
  refine lv_repi (nI (fr (fm - 1) + 1)) (nI_1 _) ?_
  refine xi_ast hx hb hk.1 hP hD hS 5 1 rfl rfl z (fun j => nI (un tb z (fr (fm - 1) + 1) j)) (rfl) (hz.1) (by decide) (un_nI _ _ _) d_CO_add_60 (fun H locs hP hD hS => ?_)
  have hP : va_P D classes (wC ad cL cI (vp_updL id (fr (fm - 1)) name) (upd ix (fr (fm - 1)) i) (upd wo (fr (fm - 1)) v0) fr (fm - 1) (un tb z (fr (fm - 1) + 1)) mn vl rw so) H := hP
  have hD : va_D _ (wC ad cL cI (vp_updL id (fr (fm - 1)) name) (upd ix (fr (fm - 1)) i) (upd wo (fr (fm - 1)) v0) fr (fm - 1) (un tb z (fr (fm - 1) + 1)) mn vl rw so) := hD
  refine lv_aload_n hx hb d_CO_add_61 rfl (lv_at hl 1 rfl) ?_
  refine lv_dup hx hb d_CO_add_62 rfl ?_
  refine va_get (D := D) (ci := 1) (v := .int (nI mn)) (C := R_CO) (T := F_CO) (N := 10) hx hb hts in_CO hown hk.1 hP 0 rfl rfl 6 (by decide) (hts _ m_28) (fun _ h9 => h9) rfl d_CO_add_63 ?_
  refine lv_iconst (v := nI 1) hx hb d_CO_add_66 (by decide +kernel) ?_
  refine lv_iadd hx hb d_CO_add_67 ?_
  refine lv_repi (nI (mn + 1)) (nI_1 _) ?_
  refine va_put (D := D) (ci := 1) (v := .int (nI (mn + 1))) (ty := .int) (C := R_CO) (T := F_CO) (N := 10) hx hb hts in_CO t_CO t_CO_ok n_CO hown hk.1 hP hD hS 0 rfl rfl 6 (by decide) (hts _ m_28) (fun _ h9 => h9) rfl (by decide +kernel) rfl rfl (Nat.le_of_ble_eq_true rfl) d_CO_add_68 (fun H locs hP hD hS => ?_)
  have hP : va_P D classes (wC ad cL cI (vp_updL id (fr (fm - 1)) name) (upd ix (fr (fm - 1)) i) (upd wo (fr (fm - 1)) v0) fr (fm - 1) (un tb z (fr (fm - 1) + 1)) (mn + 1) vl rw so) H := hP
  have hD : va_D _ (wC ad cL cI (vp_updL id (fr (fm - 1)) name) (upd ix (fr (fm - 1)) i) (upd wo (fr (fm - 1)) v0) fr (fm - 1) (un tb z (fr (fm - 1) + 1)) (mn + 1) vl rw so) := hD
  refine lv_aload_n hx hb d_CO_add_71 rfl (lv_at hl 1 rfl) ?_
  refine lv_dup hx hb d_CO_add_72 rfl ?_
  refine va_get (D := D) (ci := 1) (v := .long vl) (C := R_CO) (T := F_CO) (N := 10) hx hb hts in_CO hown hk.1 hP 0 rfl rfl 7 (by decide) (hts _ m_29) (fun _ h9 => h9) rfl d_CO_add_73 ?_
  refine lv_iload hx hb d_CO_add_76 (lv_at hl 4 rfl) ?_
  refine lv_i2l (v := v0.toInt64) hx hb d_CO_add_78 rfl ?_
  refine lv_ladd hx hb d_CO_add_79 ?_
  refine va_put (D := D) (ci := 1) (v := .long (vl + v0.toInt64)) (ty := .long) (C := R_CO) (T := F_CO) (N := 10) hx hb hts in_CO t_CO t_CO_ok n_CO hown hk.1 hP hD hS 0 rfl rfl 7 (by decide) (hts _ m_29) (fun _ h9 => h9) rfl (by decide +kernel) rfl rfl (Nat.le_of_ble_eq_true rfl) d_CO_add_80 (fun H locs hP hD hS => ?_)
  have hP : va_P D classes (wC ad cL cI (vp_updL id (fr (fm - 1)) name) (upd ix (fr (fm - 1)) i) (upd wo (fr (fm - 1)) v0) fr (fm - 1) (un tb z (fr (fm - 1) + 1)) (mn + 1) (vl + v0.toInt64) rw so) H := hP
  have hD : va_D _ (wC ad cL cI (vp_updL id (fr (fm - 1)) name) (upd ix (fr (fm - 1)) i) (upd wo (fr (fm - 1)) v0) fr (fm - 1) (un tb z (fr (fm - 1) + 1)) (mn + 1) (vl + v0.toInt64) rw so) := hD
  refine lv_aload_n hx hb d_CO_add_83 rfl (lv_at hl 1 rfl) ?_
  refine lv_iconst (v := 0) hx hb d_CO_add_84 (by decide +kernel) ?_
  refine va_put (D := D) (ci := 1) (v := .int 0) (ty := .boolean) (C := R_CO) (T := F_CO) (N := 10) hx hb hts in_CO t_CO t_CO_ok n_CO hown hk.1 hP hD hS 0 rfl rfl 9 (by decide) (hts _ m_32) (fun _ h9 => h9) rfl (by decide +kernel) rfl rfl (Nat.le_of_ble_eq_true rfl) d_CO_add_85 (fun H locs hP hD hS => ?_)
  have hP : va_P D classes (wC ad cL cI (vp_updL id (fr (fm - 1)) name) (upd ix (fr (fm - 1)) i) (upd wo (fr (fm - 1)) v0) fr (fm - 1) (un tb z (fr (fm - 1) + 1)) (mn + 1) (vl + v0.toInt64) rw 0) H := hP
  have hD : va_D _ (wC ad cL cI (vp_updL id (fr (fm - 1)) name) (upd ix (fr (fm - 1)) i) (upd wo (fr (fm - 1)) v0) fr (fm - 1) (un tb z (fr (fm - 1) + 1)) (mn + 1) (vl + v0.toInt64) rw 0) := hD
  exact Rt none (un tb z (fr (fm - 1) + 1)) _ _ _ _ (rt_v d_CO_add_88) (⟨rfl, q2, q3⟩) hP hS

abbrev rm_CO_remove : Room := { frames := 2, cells := 0, slots := 0, locals := 48 }
set_option maxHeartbeats 4000000 in
set_option maxRecDepth 100000 in
/-- remove(c0): the coin goes out of the table, which is closed behind it -/
theorem c_CO_remove (l : Launch) (D : va_G) (ad : Nat → Nat) (cL cI : ClassId) (id : Nat → Int64) (ix wo : Nat → Int32) (fr : Nat → Nat) (fm : Nat) (tb : Nat → Nat) (mn : Nat) (vl : Int64) (rw : Nat → Nat) (so : Int32) (c0 : Nat) (ht : tv tb id ix) (hin : inT tb c0) (hfm : fm < 900) (hmn : 0 < mn) : ct l y_CO_remove b_CO_remove 6 (none) rm_CO_remove [.ref (ad 0), .int (nI c0)] D cL cI (wC ad cL cI id ix wo fr fm tb mn vl rw so) (fun v (t : Nat → Nat) => v = none ∧ tv t id ix ∧ ∀ d, inT t d ↔ (inT tb d ∧ d ≠ c0)) (fun t => (wC ad cL cI id ix wo (un fr fm c0) (fm + 1) t (mn - 1) (vl - (wo c0).toInt64) rw 0)) := by
  refine ct_ofW (by decide) (Nat.le_of_ble_eq_true rfl) ?_
  intro p e s m below meth c Q ls hx hb hml hown hts hk hP hD hS hl Rt
  have hown : s.vm.findClass "NameTable$Coins" = some m.cls := hown
  have hl : lv_has ls 6 [(0, .ref (ad 0)), (1, .int (nI c0))] := hl
  have hc0 := tv_lt ht hin
  refine lv_aload_n hx hb d_CO_remove_0 rfl (lv_at hl 0 rfl) ?_
  refine lv_aload_n hx hb d_CO_remove_1 rfl (lv_at hl 0 rfl) ?_
  refine va_get (D := D) (ci := 1) (v := .ref (ad 1)) (C := R_CO) (T := F_CO) (N := 10) hx hb hts in_CO hown hk.1 hP 0 rfl rfl 0 (by decide) (hts _ m_18) (fun _ h9 => h9) rfl d_CO_remove_2 ?_
  refine lv_iload_n hx hb d_CO_remove_5 rfl (lv_at hl 1 rfl) ?_
  refine xl_ald hx hb hk.1 hP 1 0 rfl rfl c0 (id c0) (rfl) (hc0) (by decide) (rfl) d_CO_remove_6 ?_
  refine lv_aload_n hx hb d_CO_remove_7 rfl (lv_at hl 0 rfl) ?_
  refine va_get (D := D) (ci := 1) (v := .ref (ad 2)) (C := R_CO) (T := F_CO) (N := 10) hx hb hts in_CO hown hk.1 hP 0 rfl rfl 1 (by decide) (hts _ m_20) (fun _ h9 => h9) rfl d_CO_remove_8 ?_
  refine lv_iload_n hx hb d_CO_remove_11 rfl (lv_at hl 1 rfl) ?_
  refine xi_ald hx hb hk.1 hP 2 1 rfl rfl c0 (ix c0) (rfl) (hc0) (by decide) (rfl) d_CO_remove_12 ?_
  refine ct_callV (w1 := []) (wc := (wC ad cL cI id ix wo fr fm tb mn vl rw so)) (w2 := []) (As := [.long (id c0), .int (ix c0)]) (rest := []) hx hb hml hown hts hk (c_CO_slot l D ad cL cI id ix wo fr fm tb mn vl rw so (id c0) (ix c0) ht.1 (tv_hole ht)) 2 m_74 m_2 m_71 m_73 s_CO_slot (by decide +kernel) ⟨Nat.le_of_ble_eq_true rfl, Nat.le_of_ble_eq_true rfl⟩ ⟨rfl, rfl⟩ rfl rfl rfl hl.1 rfl (Nat.le_of_ble_eq_true rfl) d_CO_remove_13 ⟨Nat.le_of_ble_eq_true rfl, Nat.le_of_ble_eq_true rfl⟩ hP hD hS (fun _ => rfl) (fun v u H locs hv hP hD hS => ?_)
  obtain ⟨h, rfl, hz⟩ := hv
  refine W.eq (g2 := F0 m 16 ls [.int (nI h)]) rfl ?_
  have hh : h < 1024 := hz.1
  have hth : tb h = c0 + 1 := by
    rcases tv_find ht hz with ⟨-, q2⟩ | ⟨c1, q1, -, q3, q4, q5⟩
    · exact absurd ⟨rfl, rfl⟩ (q2 c0 hin)
    · rw [q1, ht.2.2.2 c1 c0 q3 hin q4 q5]
  refine lv_istore_n (lv' := [(2, .int (nI h)), (0, .ref (ad 0)), (1, .int (nI c0))]) hx hb d_CO_remove_16 rfl hl (by decide) rfl (fun ls hl => ?_)
  refine lv_iload_n hx hb d_CO_remove_17 rfl (lv_at hl 0 rfl) ?_
  refine lv_iconst (v := nI 1) hx hb d_CO_remove_18 (by decide +kernel) ?_
  refine lv_iadd hx hb d_CO_remove_19 ?_
  refine lv_repi (nI (h + 1)) (nI_1 _) ?_
  refine lv_sipush (v := nI 1023) hx hb d_CO_remove_20 (by decide +kernel) ?_
  refine lv_iand hx hb d_CO_remove_23 ?_
  refine lv_repi (nI ((h + 1) % 1024)) (nv_msk _ (by omega)) ?_
  refine lv_istore_n (lv' := [(3, .int (nI ((h + 1) % 1024))), (2, .int (nI h)), (0, .ref (ad 0)), (1, .int (nI c0))]) hx hb d_CO_remove_24 rfl hl (by decide) rfl (fun ls hl => ?_)
  have hl := lv_sub hl (l' := [(0, .ref (ad 0)), (1, .int (nI c0)), (2, .int (nI h)), (3, .int (nI ((h + 1) % 1024)))]) [2, 3, 1, 0] rfl
  obtain ⟨e0, hdl⟩ := dl_0 ht hh hth
  have loop : ∀ (k h z : Nat) (t : Nat → Nat) (ls : Array Slot) (H : Heap) (locs : List Loc), ds z e0 = k → dl tb id ix c0 t h z e0 → lv_has ls 6 [(0, .ref (ad 0)), (1, .int (nI c0)), (2, .int (nI h)), (3, .int (nI z))] → va_P D classes (wC ad cL cI id ix wo fr fm t mn vl rw so) H → va_D (ad_ (wC ad cL cI id ix wo fr fm tb mn vl rw so)) (wC ad cL cI id ix wo fr fm t mn vl rw so) → va_S (ad_ (wC ad cL cI id ix wo fr fm tb mn vl rw so)) s.heap H locs → W p l e rm_CO_remove s m (List.toArray [.ref (ad 0), .int (nI c0)]) below meth c H locs 0 0 Q (F0 m 25 ls []) := by
    intro k
    induction k using Nat.strongRecOn with
    | _ k ih =>
      intro h z t ls H locs hkz hd hl hP hD hS
      have hd2 := hd
      obtain ⟨⟨a1, a2, a3, a4, a5, a6, a7⟩, b1, -⟩ := hd2
      have htz := b1 z a2
      refine lv_aload_n hx hb d_CO_remove_25 rfl (lv_at hl 0 rfl) ?_
      refine va_get (D := D) (ci := 1) (v := .ref (ad 5)) (C := R_CO) (T := F_CO) (N := 10) hx hb hts in_CO hown hk.1 hP 0 rfl rfl 5 (by decide) (hts _ m_26) (fun _ h9 => h9) rfl d_CO_remove_26 ?_
      refine lv_iload_n hx hb d_CO_remove_29 rfl (lv_at hl 3 rfl) ?_
      refine xi_ald hx hb hk.1 hP 5 1 rfl rfl z (nI (t z)) (rfl) (a2) (by decide) (rfl) d_CO_remove_30 ?_
      refine lv_if_eq (tgt := 139) hx hb d_CO_remove_31 (by decide) (fun h1 => ?_) (fun h1 => ?_)
      · have h1 : t z = 0 := (nI_eq (by omega) (by decide)).mp h1
        obtain ⟨q2, q3⟩ := dl_end ht hd h1
        refine lv_aload_n hx hb d_CO_remove_139 rfl (lv_at hl 0 rfl) ?_
        refine va_get (D := D) (ci := 1) (v := .ref (ad 5)) (C := R_CO) (T := F_CO) (N := 10) hx hb hts in_CO hown hk.1 hP 0 rfl rfl 5 (by decide) (hts _ m_26) (fun _ h9 => h9) rfl d_CO_remove_140 ?_
        refine lv_iload_n hx hb d_CO_remove_143 rfl (lv_at hl 2 rfl) ?_
        refine lv_iconst (v := nI 0) hx hb d_CO_remove_144 (by decide +kernel) ?_
        refine xi_ast hx hb hk.1 hP hD hS 5 1 rfl rfl h (fun j => nI (un t h 0 j)) (rfl) (a1) (by decide) (un_nI _ _ _) d_CO_remove_145 (fun H locs hP hD hS => ?_)
        have hP : va_P D classes (wC ad cL cI id ix wo fr fm (un t h 0) mn vl rw so) H := hP
        have hD : va_D _ (wC ad cL cI id ix wo fr fm (un t h 0) mn vl rw so) := hD
        refine lv_aload_n hx hb d_CO_remove_146 rfl (lv_at hl 0 rfl) ?_
        refine va_get (D := D) (ci := 1) (v := .ref (ad 4)) (C := R_CO) (T := F_CO) (N := 10) hx hb hts in_CO hown hk.1 hP 0 rfl rfl 3 (by decide) (hts _ m_24) (fun _ h9 => h9) rfl d_CO_remove_147 ?_
        refine lv_aload_n hx hb d_CO_remove_150 rfl (lv_at hl 0 rfl) ?_
        refine va_get (D := D) (ci := 1) (v := .int (nI fm)) (C := R_CO) (T := F_CO) (N := 10) hx hb hts in_CO hown hk.1 hP 0 rfl rfl 4 (by decide) (hts _ m_25) (fun _ h9 => h9) rfl d_CO_remove_151 ?_
        refine lv_iload_n hx hb d_CO_remove_154 rfl (lv_at hl 1 rfl) ?_
        refine xi_ast hx hb hk.1 hP hD hS 4 1 rfl rfl fm (fun j => nI (un fr fm c0 j)) (rfl) (by omega) (by decide) (un_nI _ _ _) d_CO_remove_155 (fun H locs hP hD hS => ?_)
        have hP : va_P D classes (wC ad cL cI id ix wo (un fr fm c0) fm (un t h 0) mn vl rw so) H := hP
        have hD : va_D _ (wC ad cL cI id ix wo (un fr fm c0) fm (un t h 0) mn vl rw so) := hD
        refine lv_aload_n hx hb d_CO_remove_156 rfl (lv_at hl 0 rfl) ?_
        refine lv_dup hx hb d_CO_remove_157 rfl ?_
        refine va_get (D := D) (ci := 1) (v := .int (nI fm)) (C := R_CO) (T := F_CO) (N := 10) hx hb hts in_CO hown hk.1 hP 0 rfl rfl 4 (by decide) (hts _ m_25) (fun _ h9 => h9) rfl d_CO_remove_158 ?_
        refine lv_iconst (v := nI 1) hx hb d_CO_remove_161 (by decide +kernel) ?_
        refine lv_iadd hx hb d_CO_remove_162 ?_
        refine lv_repi (nI (fm + 1)) (nI_1 _) ?_
        refine va_put (D := D) (ci := 1) (v := .int (nI (fm + 1))) (ty := .int) (C := R_CO) (T := F_CO) (N := 10) hx hb hts in_CO t_CO t_CO_ok n_CO hown hk.1 hP hD hS 0 rfl rfl 4 (by decide) (hts _ m_25) (fun _ h9 => h9) rfl (by decide +kernel) rfl rfl (Nat.le_of_ble_eq_true rfl) d_CO_remove_163 (fun H locs hP hD hS => ?_)
        have hP : va_P D classes (wC ad cL cI id ix wo (un fr fm c0) (fm + 1) (un t h 0) mn vl rw so) H := hP
        have hD : va_D _ (wC ad cL cI id ix wo (un fr fm c0) (fm + 1) (un t h 0) mn vl rw so) := hD
        refine lv_aload_n hx hb d_CO_remove_166 rfl (lv_at hl 0 rfl) ?_
        refine lv_dup hx hb d_CO_remove_167 rfl ?_
        refine va_get (D := D) (ci := 1) (v := .int (nI mn)) (C := R_CO) (T := F_CO) (N := 10) hx hb hts in_CO hown hk.1 hP 0 rfl rfl 6 (by decide) (hts _ m_28) (fun _ h9 => h9) rfl d_CO_remove_168 ?_
        refine lv_iconst (v := nI 1) hx hb d_CO_remove_171 (by decide +kernel) ?_
        refine lv_isub hx hb d_CO_remove_172 ?_
        refine lv_repi (nI (mn - 1)) (nv_sub1 hmn) ?_
        refine va_put (D := D) (ci := 1) (v := .int (nI (mn - 1))) (ty := .int) (C := R_CO) (T := F_CO) (N := 10) hx hb hts in_CO t_CO t_CO_ok n_CO hown hk.1 hP hD hS 0 rfl rfl 6 (by decide) (hts _ m_28) (fun _ h9 => h9) rfl (by decide +kernel) rfl rfl (Nat.le_of_ble_eq_true rfl) d_CO_remove_173 (fun H locs hP hD hS => ?_)
        have hP : va_P D classes (wC ad cL cI id ix wo (un fr fm c0) (fm + 1) (un t h 0) (mn - 1) vl rw so) H := hP
        have hD : va_D _ (wC ad cL cI id ix wo (un fr fm c0) (fm + 1) (un t h 0) (mn - 1) vl rw so) := hD
        refine lv_aload_n hx hb d_CO_remove_176 rfl (lv_at hl 0 rfl) ?_
        refine lv_dup hx hb d_CO_remove_177 rfl ?_
        refine va_get (D := D) (ci := 1) (v := .long vl) (C := R_CO) (T := F_CO) (N := 10) hx hb hts in_CO hown hk.1 hP 0 rfl rfl 7 (by decide) (hts _ m_29) (fun _ h9 => h9) rfl d_CO_remove_178 ?_
        refine lv_aload_n hx hb d_CO_remove_181 rfl (lv_at hl 0 rfl) ?_
        refine va_get (D := D) (ci := 1) (v := .ref (ad 3)) (C := R_CO) (T := F_CO) (N := 10) hx hb hts in_CO hown hk.1 hP 0 rfl rfl 2 (by decide) (hts _ m_22) (fun _ h9 => h9) rfl d_CO_remove_182 ?_
        refine lv_iload_n hx hb d_CO_remove_185 rfl (lv_at hl 1 rfl) ?_
        refine xi_ald hx hb hk.1 hP 3 1 rfl rfl c0 (wo c0) (rfl) (hc0) (by decide) (rfl) d_CO_remove_186 ?_
        refine lv_i2l (v := (wo c0).toInt64) hx hb d_CO_remove_187 rfl ?_
        refine lv_lsub hx hb d_CO_remove_188 ?_
        refine va_put (D := D) (ci := 1) (v := .long (vl - ((wo c0).toInt64))) (ty := .long) (C := R_CO) (T := F_CO) (N := 10) hx hb hts in_CO t_CO t_CO_ok n_CO hown hk.1 hP hD hS 0 rfl rfl 7 (by decide) (hts _ m_29) (fun _ h9 => h9) rfl (by decide +kernel) rfl rfl (Nat.le_of_ble_eq_true rfl) d_CO_remove_189 (fun H locs hP hD hS => ?_)
        have hP : va_P D classes (wC ad cL cI id ix wo (un fr fm c0) (fm + 1) (un t h 0) (mn - 1) (vl - ((wo c0).toInt64)) rw so) H := hP
        have hD : va_D _ (wC ad cL cI id ix wo (un fr fm c0) (fm + 1) (un t h 0) (mn - 1) (vl - ((wo c0).toInt64)) rw so) := hD
        refine lv_aload_n hx hb d_CO_remove_192 rfl (lv_at hl 0 rfl) ?_
        refine lv_iconst (v := 0) hx hb d_CO_remove_193 (by decide +kernel) ?_
        refine va_put (D := D) (ci := 1) (v := .int 0) (ty := .boolean) (C := R_CO) (T := F_CO) (N := 10) hx hb hts in_CO t_CO t_CO_ok n_CO hown hk.1 hP hD hS 0 rfl rfl 9 (by decide) (hts _ m_32) (fun _ h9 => h9) rfl (by decide +kernel) rfl rfl (Nat.le_of_ble_eq_true rfl) d_CO_remove_194 (fun H locs hP hD hS => ?_)
        have hP : va_P D classes (wC ad cL cI id ix wo (un fr fm c0) (fm + 1) (un t h 0) (mn - 1) (vl - ((wo c0).toInt64)) rw 0) H := hP
        have hD : va_D _ (wC ad cL cI id ix wo (un fr fm c0) (fm + 1) (un t h 0) (mn - 1) (vl - ((wo c0).toInt64)) rw 0) := hD
        exact Rt none (un t h 0) _ _ _ _ (rt_v d_CO_remove_197) (⟨rfl, q2, q3⟩) hP hS
      · have h1 : t z ≠ 0 := fun q => h1 (by rw [q]; exact nI_0)
        have hze : z ≠ e0 := fun q => h1 (by rw [q]; exact a4)
        have htz1 : t z - 1 < 900 := by omega
        refine lv_aload_n hx hb d_CO_remove_34 rfl (lv_at hl 0 rfl) ?_
        refine va_get (D := D) (ci := 1) (v := .ref (ad 1)) (C := R_CO) (T := F_CO) (N := 10) hx hb hts in_CO hown hk.1 hP 0 rfl rfl 0 (by decide) (hts _ m_18) (fun _ h9 => h9) rfl d_CO_remove_35 ?_
        refine lv_aload_n hx hb d_CO_remove_38 rfl (lv_at hl 0 rfl) ?_
        refine va_get (D := D) (ci := 1) (v := .ref (ad 5)) (C := R_CO) (T := F_CO) (N := 10) hx hb hts in_CO hown hk.1 hP 0 rfl rfl 5 (by decide) (hts _ m_26) (fun _ h9 => h9) rfl d_CO_remove_39 ?_
        refine lv_iload_n hx hb d_CO_remove_42 rfl (lv_at hl 3 rfl) ?_
        refine xi_ald hx hb hk.1 hP 5 1 rfl rfl z (nI (t z)) (rfl) (a2) (by decide) (rfl) d_CO_remove_43 ?_
        refine lv_iconst (v := nI 1) hx hb d_CO_remove_44 (by decide +kernel) ?_
        refine lv_isub hx hb d_CO_remove_45 ?_
        refine lv_repi (nI (t z - 1)) (nv_sub1 (by omega)) ?_
        refine xl_ald hx hb hk.1 hP 1 0 rfl rfl (t z - 1) (id (t z - 1)) (rfl) (htz1) (by decide) (rfl) d_CO_remove_46 ?_
        refine lv_aload_n hx hb d_CO_remove_47 rfl (lv_at hl 0 rfl) ?_
        refine va_get (D := D) (ci := 1) (v := .ref (ad 2)) (C := R_CO) (T := F_CO) (N := 10) hx hb hts in_CO hown hk.1 hP 0 rfl rfl 1 (by decide) (hts _ m_20) (fun _ h9 => h9) rfl d_CO_remove_48 ?_
        refine lv_aload_n hx hb d_CO_remove_51 rfl (lv_at hl 0 rfl) ?_
        refine va_get (D := D) (ci := 1) (v := .ref (ad 5)) (C := R_CO) (T := F_CO) (N := 10) hx hb hts in_CO hown hk.1 hP 0 rfl rfl 5 (by decide) (hts _ m_26) (fun _ h9 => h9) rfl d_CO_remove_52 ?_
        refine lv_iload_n hx hb d_CO_remove_55 rfl (lv_at hl 3 rfl) ?_
        refine xi_ald hx hb hk.1 hP 5 1 rfl rfl z (nI (t z)) (rfl) (a2) (by decide) (rfl) d_CO_remove_56 ?_
        refine lv_iconst (v := nI 1) hx hb d_CO_remove_57 (by decide +kernel) ?_
        refine lv_isub hx hb d_CO_remove_58 ?_
        refine lv_repi (nI (t z - 1)) (nv_sub1 (by omega)) ?_
        refine xi_ald hx hb hk.1 hP 2 1 rfl rfl (t z - 1) (ix (t z - 1)) (rfl) (htz1) (by decide) (rfl) d_CO_remove_59 ?_
        refine ct_callS (As := [.long (id (t z - 1)), .int (ix (t z - 1))]) (rest := []) hx hb hml hown hts hk (c_CO_place l D cL cI (id (t z - 1)) (ix (t z - 1))) 2 m_77 m_2 m_75 m_76 (by decide +kernel) ⟨Nat.le_of_ble_eq_true rfl, Nat.le_of_ble_eq_true rfl⟩ ⟨rfl, rfl⟩ rfl hl.1 rfl (Nat.le_of_ble_eq_true rfl) d_CO_remove_60 ⟨Nat.le_of_ble_eq_true rfl, Nat.le_of_ble_eq_true rfl⟩ hP hD hS (fun v H locs hv hP hS => ?_)
        subst hv
        refine W.eq (g2 := F0 m 63 ls [.int (nI (pl (id (t z - 1)) (ix (t z - 1))))]) rfl ?_
        have hpl := pl_lt (id (t z - 1)) (ix (t z - 1))
        obtain ⟨P, hPe⟩ : ∃ P, P = pl (id (t z - 1)) (ix (t z - 1)) := ⟨_, rfl⟩
        rw [← hPe] at hpl
        refine lv_repi (nI P) (by rw [hPe]) ?_
        refine lv_istore (lv' := [(4, .int (nI P)), (0, .ref (ad 0)), (1, .int (nI c0)), (2, .int (nI h)), (3, .int (nI z))]) hx hb d_CO_remove_63 hl (by decide) rfl (fun ls hl => ?_)
        have k107 : ∀ (b5 : Int32), ((b5 = 0 ∧ ds P h < ds P z) ∨ (b5 = 1 ∧ ¬ ds P h < ds P z)) → W p l e rm_CO_remove s m (List.toArray [.ref (ad 0), .int (nI c0)]) below meth c H locs 0 0 Q (F0 m 107 ls [.int b5]) := by
          intro b5 hb5
          refine lv_istore (lv' := [(5, .int b5), (4, .int (nI P)), (0, .ref (ad 0)), (1, .int (nI c0)), (2, .int (nI h)), (3, .int (nI z))]) hx hb d_CO_remove_107 hl (by decide) rfl (fun ls hl => ?_)
          refine lv_iload hx hb d_CO_remove_109 (lv_at hl 0 rfl) ?_
          refine lv_if_ne (tgt := 128) hx hb d_CO_remove_111 (by decide) (fun h5 => ?_) (fun h5 => ?_)
          · have hst : ¬ ds P h < ds P z := by
              rcases hb5 with ⟨q, -⟩ | ⟨-, q⟩
              · exact absurd q h5
              · exact q
            refine lv_iload_n hx hb d_CO_remove_128 rfl (lv_at hl 5 rfl) ?_
            refine lv_iconst (v := nI 1) hx hb d_CO_remove_129 (by decide +kernel) ?_
            refine lv_iadd hx hb d_CO_remove_130 ?_
            refine lv_repi (nI (z + 1)) (nI_1 _) ?_
            refine lv_sipush (v := nI 1023) hx hb d_CO_remove_131 (by decide +kernel) ?_
            refine lv_iand hx hb d_CO_remove_134 ?_
            refine lv_repi (nI ((z + 1) % 1024)) (nv_msk _ (by omega)) ?_
            refine lv_istore_n (lv' := [(3, .int (nI ((z + 1) % 1024))), (5, .int b5), (4, .int (nI P)), (0, .ref (ad 0)), (1, .int (nI c0)), (2, .int (nI h))]) hx hb d_CO_remove_135 rfl hl (by decide) rfl (fun ls hl => ?_)
            refine lv_goto (tgt := 25) hx hb d_CO_remove_136 (by decide) ?_
            have hl := lv_sub hl (l' := [(0, .ref (ad 0)), (1, .int (nI c0)), (2, .int (nI h)), (3, .int (nI ((z + 1) % 1024)))]) [3, 4, 5, 0] rfl
            exact ih (ds ((z + 1) % 1024) e0) (by unfold ds at *; omega) h ((z + 1) % 1024) t ls H locs rfl (dl_stay hd h1 (by unfold ps; rw [← hPe]; exact hst)) hl hP hD hS
          · have hst : ds P h < ds P z := by
              rcases hb5 with ⟨-, q⟩ | ⟨q, -⟩
              · exact q
              · rw [h5] at q; exact absurd q (by decide)
            refine lv_aload_n hx hb d_CO_remove_114 rfl (lv_at hl 2 rfl) ?_
            refine va_get (D := D) (ci := 1) (v := .ref (ad 5)) (C := R_CO) (T := F_CO) (N := 10) hx hb hts in_CO hown hk.1 hP 0 rfl rfl 5 (by decide) (hts _ m_26) (fun _ h9 => h9) rfl d_CO_remove_115 ?_
            refine lv_iload_n hx hb d_CO_remove_118 rfl (lv_at hl 4 rfl) ?_
            refine lv_aload_n hx hb d_CO_remove_119 rfl (lv_at hl 2 rfl) ?_
            refine va_get (D := D) (ci := 1) (v := .ref (ad 5)) (C := R_CO) (T := F_CO) (N := 10) hx hb hts in_CO hown hk.1 hP 0 rfl rfl 5 (by decide) (hts _ m_26) (fun _ h9 => h9) rfl d_CO_remove_120 ?_
            refine lv_iload_n hx hb d_CO_remove_123 rfl (lv_at hl 5 rfl) ?_
            refine xi_ald hx hb hk.1 hP 5 1 rfl rfl z (nI (t z)) (rfl) (a2) (by decide) (rfl) d_CO_remove_124 ?_
            refine xi_ast hx hb hk.1 hP hD hS 5 1 rfl rfl h (fun j => nI (un t h (t z) j)) (rfl) (a1) (by decide) (un_nI _ _ _) d_CO_remove_125 (fun H locs hP hD hS => ?_)
            have hP : va_P D classes (wC ad cL cI id ix wo fr fm (un t h (t z)) mn vl rw so) H := hP
            have hD : va_D _ (wC ad cL cI id ix wo fr fm (un t h (t z)) mn vl rw so) := hD
            refine lv_iload_n hx hb d_CO_remove_126 rfl (lv_at hl 5 rfl) ?_
            refine lv_istore_n (lv' := [(2, .int (nI z)), (5, .int b5), (4, .int (nI P)), (0, .ref (ad 0)), (1, .int (nI c0)), (3, .int (nI z))]) hx hb d_CO_remove_127 rfl hl (by decide) rfl (fun ls hl => ?_)
            refine lv_iload_n hx hb d_CO_remove_128 rfl (lv_at hl 5 rfl) ?_
            refine lv_iconst (v := nI 1) hx hb d_CO_remove_129 (by decide +kernel) ?_
            refine lv_iadd hx hb d_CO_remove_130 ?_
            refine lv_repi (nI (z + 1)) (nI_1 _) ?_
            refine lv_sipush (v := nI 1023) hx hb d_CO_remove_131 (by decide +kernel) ?_
            refine lv_iand hx hb d_CO_remove_134 ?_
            refine lv_repi (nI ((z + 1) % 1024)) (nv_msk _ (by omega)) ?_
            refine lv_istore_n (lv' := [(3, .int (nI ((z + 1) % 1024))), (2, .int (nI z)), (5, .int b5), (4, .int (nI P)), (0, .ref (ad 0)), (1, .int (nI c0))]) hx hb d_CO_remove_135 rfl hl (by decide) rfl (fun ls hl => ?_)
            refine lv_goto (tgt := 25) hx hb d_CO_remove_136 (by decide) ?_
            have hl := lv_sub hl (l' := [(0, .ref (ad 0)), (1, .int (nI c0)), (2, .int (nI z)), (3, .int (nI ((z + 1) % 1024)))]) [4, 5, 1, 0] rfl
            exact ih (ds ((z + 1) % 1024) e0) (by unfold ds at *; omega) z ((z + 1) % 1024) (un t h (t z)) ls H locs rfl (dl_move hd h1 (by unfold ps; rw [← hPe]; exact hst)) hl hP hD hS
        refine lv_iload_n hx hb d_CO_remove_65 rfl (lv_at hl 3 rfl) ?_
        refine lv_iload_n hx hb d_CO_remove_66 rfl (lv_at hl 4 rfl) ?_
        refine lv_icmp_gt (tgt := 90) hx hb d_CO_remove_67 (by decide) (fun g1 => ?_) (fun g1 => ?_)
        · have g1 := (nI_ltI (by omega) (by omega)).mp g1
          refine lv_iload_n hx hb d_CO_remove_90 rfl (lv_at hl 3 rfl) ?_
          refine lv_iload hx hb d_CO_remove_91 (lv_at hl 0 rfl) ?_
          refine lv_icmp_lt (tgt := 102) hx hb d_CO_remove_93 (by decide) (fun g2 => ?_) (fun g2 => ?_)
          · have g2 := (nI_ltI (by omega) (by omega)).mp g2
            refine lv_iconst (v := 1) hx hb d_CO_remove_102 (by decide +kernel) ?_
            refine lv_goto (tgt := 107) hx hb d_CO_remove_103 (by decide) ?_
            exact k107 1 (Or.inr ⟨rfl, by unfold ds; omega⟩)
          · have g2 := Nat.le_of_not_lt (fun q => g2 ((nI_ltI (by omega) (by omega)).mpr q))
            refine lv_iload hx hb d_CO_remove_96 (lv_at hl 0 rfl) ?_
            refine lv_iload_n hx hb d_CO_remove_98 rfl (lv_at hl 4 rfl) ?_
            refine lv_icmp_gt (tgt := 106) hx hb d_CO_remove_99 (by decide) (fun g3 => ?_) (fun g3 => ?_)
            · have g3 := (nI_ltI (by omega) (by omega)).mp g3
              refine lv_iconst (v := 0) hx hb d_CO_remove_106 (by decide +kernel) ?_
              exact k107 0 (Or.inl ⟨rfl, by unfold ds; omega⟩)
            · have g3 := Nat.le_of_not_lt (fun q => g3 ((nI_ltI (by omega) (by omega)).mpr q))
              refine lv_iconst (v := 1) hx hb d_CO_remove_102 (by decide +kernel) ?_
              refine lv_goto (tgt := 107) hx hb d_CO_remove_103 (by decide) ?_
              exact k107 1 (Or.inr ⟨rfl, by unfold ds; omega⟩)
        · have g1 := Nat.le_of_not_lt (fun q => g1 ((nI_ltI (by omega) (by omega)).mpr q))
          have hhz : h ≠ z := fun q => by rw [q] at a6; unfold ds at a6; omega
          refine lv_iload_n hx hb d_CO_remove_70 rfl (lv_at hl 3 rfl) ?_
          refine lv_iload hx hb d_CO_remove_71 (lv_at hl 0 rfl) ?_
          refine lv_icmp_ge (tgt := 86) hx hb d_CO_remove_73 (by decide) (fun g2 => ?_) (fun g2 => ?_)
          · have g2 := (nI_leI (by omega) (by omega)).mp g2
            refine lv_iconst (v := 0) hx hb d_CO_remove_86 (by decide +kernel) ?_
            refine lv_goto (tgt := 107) hx hb d_CO_remove_87 (by decide) ?_
            exact k107 0 (Or.inl ⟨rfl, by unfold ds; omega⟩)
          · have g2 := Nat.lt_of_not_le (fun q => g2 ((nI_leI (by omega) (by omega)).mpr q))
            refine lv_iload hx hb d_CO_remove_76 (lv_at hl 0 rfl) ?_
            refine lv_iload_n hx hb d_CO_remove_78 rfl (lv_at hl 4 rfl) ?_
            refine lv_icmp_gt (tgt := 86) hx hb d_CO_remove_79 (by decide) (fun g3 => ?_) (fun g3 => ?_)
            · have g3 := (nI_ltI (by omega) (by omega)).mp g3
              refine lv_iconst (v := 0) hx hb d_CO_remove_86 (by decide +kernel) ?_
              refine lv_goto (tgt := 107) hx hb d_CO_remove_87 (by decide) ?_
              exact k107 0 (Or.inl ⟨rfl, by unfold ds; omega⟩)
            · have g3 := Nat.le_of_not_lt (fun q => g3 ((nI_ltI (by omega) (by omega)).mpr q))
              refine lv_iconst (v := 1) hx hb d_CO_remove_82 (by decide +kernel) ?_
              refine lv_goto (tgt := 107) hx hb d_CO_remove_83 (by decide) ?_
              exact k107 1 (Or.inr ⟨rfl, by unfold ds; omega⟩)
  exact loop _ h ((h + 1) % 1024) tb ls H locs rfl hdl hl hP hD hS
end
section
/-! walks, 3: Coins.compare, Coins.sink (printed by gen/g12.py) -/
theorem nv_cmp8 : ∀ a, a < 8 → ∀ b, b < 8 → (0 < nI a - nI b ↔ nI b < nI a) := by decide +kernel
theorem nv_cmp {x y : Int32} (hx : 0 ≤ x ∧ x ≤ 7) (hy : 0 ≤ y ∧ y ≤ 7) : 0 < x - y ↔ y < x := by
  obtain ⟨a, a1, rfl⟩ := nI_of2 (M := 7) (n := 7) (by decide) (Int32.not_lt.mpr hx.1) hx.2
  obtain ⟨b, b1, rfl⟩ := nI_of2 (M := 7) (n := 7) (by decide) (Int32.not_lt.mpr hy.1) hy.2
  exact nv_cmp8 a (by omega) b (by omega)
abbrev rm_CO_compare : Room := { frames := 0, cells := 0, slots := 0, locals := 0 }
set_option maxHeartbeats 4000000 in
set_option maxRecDepth 100000 in
/-- compare(c1, c2): greater than 0 if and only if c1 comes behind c2 -/
theorem c_CO_compare (l : Launch) (D : va_G) (ad : Nat → Nat) (cL cI : ClassId) (id : Nat → Int64) (ix wo : Nat → Int32) (fr : Nat → Nat) (fm : Nat) (tb : Nat → Nat) (mn : Nat) (vl : Int64) (rw : Nat → Nat) (so : Int32) (c1 c2 : Nat) (h1 : c1 < 900) (h2 : c2 < 900) (q1 : 0 ≤ ix c1 ∧ ix c1 ≤ 7) (q2 : 0 ≤ ix c2 ∧ ix c2 ≤ 7) : ct l y_CO_compare b_CO_compare 3 (some .int) rm_CO_compare [.ref (ad 0), .int (nI c1), .int (nI c2)] D cL cI (wC ad cL cI id ix wo fr fm tb mn vl rw so) (fun v (_ : Unit) => ∃ r : Int32, v = some (.int r) ∧ (0 < r ↔ kl (id c2) (ix c2) (id c1) (ix c1))) (fun _ => (wC ad cL cI id ix wo fr fm tb mn vl rw so)) := by
  refine ct_ofW (by decide) (Nat.le_of_ble_eq_true rfl) ?_
  intro p e s m below meth c Q ls hx hb hml hown hts hk hP hD hS hl Rt
  have hown : s.vm.findClass "NameTable$Coins" = some m.cls := hown
  have hl : lv_has ls 3 [(0, .ref (ad 0)), (1, .int (nI c1)), (2, .int (nI c2))] := hl
  refine lv_aload_n hx hb d_CO_compare_0 rfl (lv_at hl 0 rfl) ?_
  refine va_get (D := D) (ci := 1) (v := .ref (ad 1)) (C := R_CO) (T := F_CO) (N := 10) hx hb hts in_CO hown hk.1 hP 0 rfl rfl 0 (by decide) (hts _ m_18) (fun _ h9 => h9) rfl d_CO_compare_1 ?_
  refine lv_iload_n hx hb d_CO_compare_4 rfl (lv_at hl 1 rfl) ?_
  refine xl_ald hx hb hk.1 hP 1 0 rfl rfl c1 (id c1) (rfl) (h1) (by decide) (rfl) d_CO_compare_5 ?_
  refine lv_aload_n hx hb d_CO_compare_6 rfl (lv_at hl 0 rfl) ?_
  refine va_get (D := D) (ci := 1) (v := .ref (ad 1)) (C := R_CO) (T := F_CO) (N := 10) hx hb hts in_CO hown hk.1 hP 0 rfl rfl 0 (by decide) (hts _ m_18) (fun _ h9 => h9) rfl d_CO_compare_7 ?_
  refine lv_iload_n hx hb d_CO_compare_10 rfl (lv_at hl 2 rfl) ?_
  refine xl_ald hx hb hk.1 hP 1 0 rfl rfl c2 (id c2) (rfl) (h2) (by decide) (rfl) d_CO_compare_11 ?_
  refine W.lcmp hx hb d_CO_compare_12 ?_
  refine lv_if_eq (tgt := 38) hx hb d_CO_compare_13 (by decide) (fun g1 => ?_) (fun g1 => ?_)
  · have g1 := (lg_cmp_eq _ _).mp g1
    refine lv_aload_n hx hb d_CO_compare_38 rfl (lv_at hl 0 rfl) ?_
    refine va_get (D := D) (ci := 1) (v := .ref (ad 2)) (C := R_CO) (T := F_CO) (N := 10) hx hb hts in_CO hown hk.1 hP 0 rfl rfl 1 (by decide) (hts _ m_20) (fun _ h9 => h9) rfl d_CO_compare_39 ?_
    refine lv_iload_n hx hb d_CO_compare_42 rfl (lv_at hl 1 rfl) ?_
    refine xi_ald hx hb hk.1 hP 2 1 rfl rfl c1 (ix c1) (rfl) (h1) (by decide) (rfl) d_CO_compare_43 ?_
    refine lv_aload_n hx hb d_CO_compare_44 rfl (lv_at hl 0 rfl) ?_
    refine va_get (D := D) (ci := 1) (v := .ref (ad 2)) (C := R_CO) (T := F_CO) (N := 10) hx hb hts in_CO hown hk.1 hP 0 rfl rfl 1 (by decide) (hts _ m_20) (fun _ h9 => h9) rfl d_CO_compare_45 ?_
    refine lv_iload_n hx hb d_CO_compare_48 rfl (lv_at hl 2 rfl) ?_
    refine xi_ald hx hb hk.1 hP 2 1 rfl rfl c2 (ix c2) (rfl) (h2) (by decide) (rfl) d_CO_compare_49 ?_
    refine lv_isub hx hb d_CO_compare_50 ?_
    exact Rt (some (.int ((ix c1) - (ix c2)))) () _ _ _ _ (rt_i d_CO_compare_51) (⟨_, rfl, by rw [nv_cmp q1 q2]; exact ⟨fun q => Or.inr ⟨g1.symm, q⟩, fun q => by rcases q with q | q; (rw [g1] at q; exact absurd q (by rw [Int64.lt_iff_toInt_lt]; omega)); exact q.2⟩⟩) hP hS
  · have g1 : id c1 ≠ id c2 := fun q => g1 ((lg_cmp_eq _ _).mpr q)
    refine lv_aload_n hx hb d_CO_compare_16 rfl (lv_at hl 0 rfl) ?_
    refine va_get (D := D) (ci := 1) (v := .ref (ad 1)) (C := R_CO) (T := F_CO) (N := 10) hx hb hts in_CO hown hk.1 hP 0 rfl rfl 0 (by decide) (hts _ m_18) (fun _ h9 => h9) rfl d_CO_compare_17 ?_
    refine lv_iload_n hx hb d_CO_compare_20 rfl (lv_at hl 1 rfl) ?_
    refine xl_ald hx hb hk.1 hP 1 0 rfl rfl c1 (id c1) (rfl) (h1) (by decide) (rfl) d_CO_compare_21 ?_
    refine lv_aload_n hx hb d_CO_compare_22 rfl (lv_at hl 0 rfl) ?_
    refine va_get (D := D) (ci := 1) (v := .ref (ad 1)) (C := R_CO) (T := F_CO) (N := 10) hx hb hts in_CO hown hk.1 hP 0 rfl rfl 0 (by decide) (hts _ m_18) (fun _ h9 => h9) rfl d_CO_compare_23 ?_
    refine lv_iload_n hx hb d_CO_compare_26 rfl (lv_at hl 2 rfl) ?_
    refine xl_ald hx hb hk.1 hP 1 0 rfl rfl c2 (id c2) (rfl) (h2) (by decide) (rfl) d_CO_compare_27 ?_
    refine W.lcmp hx hb d_CO_compare_28 ?_
    refine lv_if_ge (tgt := 36) hx hb d_CO_compare_29 (by decide) (fun g2 => ?_) (fun g2 => ?_)
    · refine lv_iconst (v := 1) hx hb d_CO_compare_36 (by decide +kernel) ?_
      have g2 := (lg_cmp_ge _ _).mp g2
      have g3 : id c2 < id c1 := by
        rw [Int64.lt_iff_toInt_lt]; rw [Int64.le_iff_toInt_le] at g2
        have : (id c1).toInt ≠ (id c2).toInt := fun q => g1 (Int64.toInt_inj.mp q)
        omega
      exact Rt (some (.int 1)) () _ _ _ _ (rt_i d_CO_compare_37) (⟨1, rfl, fun _ => Or.inl g3, fun _ => by decide⟩) hP hS
    · refine lv_iconst (v := (-1)) hx hb d_CO_compare_32 (by decide +kernel) ?_
      refine lv_goto (tgt := 37) hx hb d_CO_compare_33 (by decide) ?_
      have g3 : id c1 < id c2 := by
        have : ¬ id c2 ≤ id c1 := fun q => g2 ((lg_cmp_ge _ _).mpr q)
        rw [Int64.lt_iff_toInt_lt]; rw [Int64.le_iff_toInt_le] at this
        omega
      exact Rt (some (.int (-1))) () _ _ _ _ (rt_i d_CO_compare_37) (⟨-1, rfl, fun q => absurd q (by decide), fun q => by rw [Int64.lt_iff_toInt_lt] at g3; rw [kl_iff] at q; omega⟩) hP hS

abbrev rm_CO_sink : Room := { frames := 1, cells := 0, slots := 0, locals := 22 }
set_option maxHeartbeats 4000000 in
set_option maxRecDepth 100000 in
/-- sink(fo, n): from fo on the first n of row are a heap -/
theorem c_CO_sink (l : Launch) (D : va_G) (ad : Nat → Nat) (cL cI : ClassId) (id : Nat → Int64) (ix wo : Nat → Int32) (fr : Nat → Nat) (fm : Nat) (tb : Nat → Nat) (mn : Nat) (vl : Int64) (rw : Nat → Nat) (so : Int32) (fo n : Nat) (hn : n ≤ 900) (hfo : fo ≤ 900) (hr0 : ∀ k, k < n → rw k < 900 ∧ 0 ≤ ix (rw k) ∧ ix (rw k) ≤ 7) (hh : ∀ j, fo < j → hp_at (lc id ix) rw n j) : ct l y_CO_sink b_CO_sink 6 (none) rm_CO_sink [.ref (ad 0), .int (nI fo), .int (nI n)] D cL cI (wC ad cL cI id ix wo fr fm tb mn vl rw so) (fun v (r : Nat → Nat) => v = none ∧ rg rw r n ∧ ∀ j, fo ≤ j → hp_at (lc id ix) r n j) (fun r => (wC ad cL cI id ix wo fr fm tb mn vl r so)) := by
  refine ct_ofW (by decide) (Nat.le_of_ble_eq_true rfl) ?_
  intro p e s m below meth c Q ls hx hb hml hown hts hk hP hD hS hl Rt
  have hown : s.vm.findClass "NameTable$Coins" = some m.cls := hown
  have hl : lv_has ls 6 [(0, .ref (ad 0)), (1, .int (nI fo)), (2, .int (nI n))] := hl
  refine lv_iload_n hx hb d_CO_sink_0 rfl (lv_at hl 1 rfl) ?_
  refine lv_istore_n (lv' := [(3, .int (nI fo)), (0, .ref (ad 0)), (1, .int (nI fo)), (2, .int (nI n))]) hx hb d_CO_sink_1 rfl hl (by decide) rfl (fun ls hl => ?_)
  have hl := lv_sub hl (l' := [(0, .ref (ad 0)), (1, .int (nI fo)), (2, .int (nI n)), (3, .int (nI fo))]) [1, 2, 3, 0] rfl
  have loop : ∀ (d k : Nat) (r : Nat → Nat) (ls : Array Slot) (H : Heap) (locs : List Loc), n - k = d → k ≤ 900 → sk_inv (lc id ix) rw r fo n k → lv_has ls 6 [(0, .ref (ad 0)), (1, .int (nI fo)), (2, .int (nI n)), (3, .int (nI k))] → va_P D classes (wC ad cL cI id ix wo fr fm tb mn vl r so) H → va_D (ad_ (wC ad cL cI id ix wo fr fm tb mn vl rw so)) (wC ad cL cI id ix wo fr fm tb mn vl r so) → va_S (ad_ (wC ad cL cI id ix wo fr fm tb mn vl rw so)) s.heap H locs → W p l e rm_CO_sink s m (List.toArray [.ref (ad 0), .int (nI fo), .int (nI n)]) below meth c H locs 0 0 Q (F0 m 2 ls []) := by
    intro d
    induction d using Nat.strongRecOn with
    | _ d ih =>
      intro k r ls H locs hdk hk9 hi hl hP hD hS
      have hr : ∀ j, j < n → r j < 900 ∧ 0 ≤ ix (r j) ∧ ix (r j) ≤ 7 := fun j hj => by
        obtain ⟨y, y1, y2⟩ := (hi.2.2.2.2.1 (r j)).mp ⟨j, hj, rfl⟩
        rw [← y2]; exact hr0 y y1
      refine lv_iconst (v := nI 2) hx hb d_CO_sink_2 (by decide +kernel) ?_
      refine lv_iload_n hx hb d_CO_sink_3 rfl (lv_at hl 3 rfl) ?_
      refine lv_imul hx hb d_CO_sink_4 ?_
      refine lv_repi (nI (2 * k)) (pk_mul _ _) ?_
      refine lv_iconst (v := nI 1) hx hb d_CO_sink_5 (by decide +kernel) ?_
      refine lv_iadd hx hb d_CO_sink_6 ?_
      refine lv_repi (nI (2 * k + 1)) (nI_1 _) ?_
      refine lv_iload_n hx hb d_CO_sink_7 rfl (lv_at hl 2 rfl) ?_
      refine lv_icmp_ge (tgt := 109) hx hb d_CO_sink_8 (by decide) (fun g1 => ?_) (fun g1 => ?_)
      · have g1 := (nI_leI (by omega) (by omega)).mp g1
        have he := sk_end hi (fun j hj hjn => by omega)
        exact Rt none r _ _ _ _ (rt_v d_CO_sink_109) (⟨rfl, he.1, he.2⟩) hP hS
      · have g1 := Nat.lt_of_not_le (fun q => g1 ((nI_leI (by omega) (by omega)).mpr q))
        refine lv_iconst (v := nI 2) hx hb d_CO_sink_11 (by decide +kernel) ?_
        refine lv_iload_n hx hb d_CO_sink_12 rfl (lv_at hl 3 rfl) ?_
        refine lv_imul hx hb d_CO_sink_13 ?_
        refine lv_repi (nI (2 * k)) (pk_mul _ _) ?_
        refine lv_iconst (v := nI 1) hx hb d_CO_sink_14 (by decide +kernel) ?_
        refine lv_iadd hx hb d_CO_sink_15 ?_
        refine lv_repi (nI (2 * k + 1)) (nI_1 _) ?_
        refine lv_istore (lv' := [(4, .int (nI (2 * k + 1))), (0, .ref (ad 0)), (1, .int (nI fo)), (2, .int (nI n)), (3, .int (nI k))]) hx hb d_CO_sink_16 hl (by decide) rfl (fun ls hl => ?_)
        have k52 : ∀ (ch : Nat) (ls : Array Slot) (H : Heap) (locs : List Loc), (ch = 2 * k + 1 ∨ ch = 2 * k + 2) → ch < n → (∀ j, (j = 2 * k + 1 ∨ j = 2 * k + 2) → j < n → lc id ix (r j) (r ch)) → lv_has ls 6 [(0, .ref (ad 0)), (1, .int (nI fo)), (2, .int (nI n)), (3, .int (nI k)), (4, .int (nI ch))] → va_P D classes (wC ad cL cI id ix wo fr fm tb mn vl r so) H → va_D (ad_ (wC ad cL cI id ix wo fr fm tb mn vl rw so)) (wC ad cL cI id ix wo fr fm tb mn vl r so) → va_S (ad_ (wC ad cL cI id ix wo fr fm tb mn vl rw so)) s.heap H locs → W p l e rm_CO_sink s m (List.toArray [.ref (ad 0), .int (nI fo), .int (nI n)]) below meth c H locs 0 0 Q (F0 m 52 ls []) := by
          intro ch ls H locs hch hcn hm hl hP hD hS
          have hkn : k < n := by omega
          refine lv_aload_n hx hb d_CO_sink_52 rfl (lv_at hl 0 rfl) ?_
          refine lv_aload_n hx hb d_CO_sink_53 rfl (lv_at hl 0 rfl) ?_
          refine va_get (D := D) (ci := 1) (v := .ref (ad 6)) (C := R_CO) (T := F_CO) (N := 10) hx hb hts in_CO hown hk.1 hP 0 rfl rfl 8 (by decide) (hts _ m_31) (fun _ h9 => h9) rfl d_CO_sink_54 ?_
          refine lv_iload hx hb d_CO_sink_57 (lv_at hl 4 rfl) ?_
          refine xi_ald hx hb hk.1 hP 6 1 rfl rfl ch (nI (r ch)) (rfl) (by omega) (by decide) (rfl) d_CO_sink_59 ?_
          refine lv_aload_n hx hb d_CO_sink_60 rfl (lv_at hl 0 rfl) ?_
          refine va_get (D := D) (ci := 1) (v := .ref (ad 6)) (C := R_CO) (T := F_CO) (N := 10) hx hb hts in_CO hown hk.1 hP 0 rfl rfl 8 (by decide) (hts _ m_31) (fun _ h9 => h9) rfl d_CO_sink_61 ?_
          refine lv_iload_n hx hb d_CO_sink_64 rfl (lv_at hl 3 rfl) ?_
          refine xi_ald hx hb hk.1 hP 6 1 rfl rfl k (nI (r k)) (rfl) (by omega) (by decide) (rfl) d_CO_sink_65 ?_
          refine ct_callV (w1 := []) (wc := (wC ad cL cI id ix wo fr fm tb mn vl r so)) (w2 := []) (As := [.int (nI (r ch)), .int (nI (r k))]) (rest := []) hx hb hml hown hts hk (c_CO_compare l D ad cL cI id ix wo fr fm tb mn vl r so (r ch) (r k) (hr ch hcn).1 (hr k hkn).1 (hr ch hcn).2 (hr k hkn).2) 2 m_120 m_2 m_117 m_119 s_CO_compare (by decide +kernel) ⟨Nat.le_of_ble_eq_true rfl, Nat.le_of_ble_eq_true rfl⟩ ⟨rfl, rfl⟩ rfl rfl rfl hl.1 rfl (Nat.le_of_ble_eq_true rfl) d_CO_sink_66 ⟨Nat.le_of_ble_eq_true rfl, Nat.le_of_ble_eq_true rfl⟩ hP hD hS (fun _ => rfl) (fun v u H locs hv hP hD hS => ?_)
          obtain ⟨x, rfl, hx0⟩ := hv
          refine W.eq (g2 := F0 m 69 ls [.int x]) rfl ?_
          refine lv_if_gt (tgt := 73) hx hb d_CO_sink_69 (by decide) (fun g5 => ?_) (fun g5 => ?_)
          · have g5 := hx0.mp g5
            refine lv_aload_n hx hb d_CO_sink_73 rfl (lv_at hl 0 rfl) ?_
            refine va_get (D := D) (ci := 1) (v := .ref (ad 6)) (C := R_CO) (T := F_CO) (N := 10) hx hb hts in_CO hown hk.1 hP 0 rfl rfl 8 (by decide) (hts _ m_31) (fun _ h9 => h9) rfl d_CO_sink_74 ?_
            refine lv_iload_n hx hb d_CO_sink_77 rfl (lv_at hl 3 rfl) ?_
            refine xi_ald hx hb hk.1 hP 6 1 rfl rfl k (nI (r k)) (rfl) (by omega) (by decide) (rfl) d_CO_sink_78 ?_
            refine lv_istore (lv' := [(5, .int (nI (r k))), (0, .ref (ad 0)), (1, .int (nI fo)), (2, .int (nI n)), (3, .int (nI k)), (4, .int (nI ch))]) hx hb d_CO_sink_79 hl (by decide) rfl (fun ls hl => ?_)
            refine lv_aload_n hx hb d_CO_sink_81 rfl (lv_at hl 1 rfl) ?_
            refine va_get (D := D) (ci := 1) (v := .ref (ad 6)) (C := R_CO) (T := F_CO) (N := 10) hx hb hts in_CO hown hk.1 hP 0 rfl rfl 8 (by decide) (hts _ m_31) (fun _ h9 => h9) rfl d_CO_sink_82 ?_
            refine lv_iload_n hx hb d_CO_sink_85 rfl (lv_at hl 4 rfl) ?_
            refine lv_aload_n hx hb d_CO_sink_86 rfl (lv_at hl 1 rfl) ?_
            refine va_get (D := D) (ci := 1) (v := .ref (ad 6)) (C := R_CO) (T := F_CO) (N := 10) hx hb hts in_CO hown hk.1 hP 0 rfl rfl 8 (by decide) (hts _ m_31) (fun _ h9 => h9) rfl d_CO_sink_87 ?_
            refine lv_iload hx hb d_CO_sink_90 (lv_at hl 5 rfl) ?_
            refine xi_ald hx hb hk.1 hP 6 1 rfl rfl ch (nI (r ch)) (rfl) (by omega) (by decide) (rfl) d_CO_sink_92 ?_
            refine xi_ast hx hb hk.1 hP hD hS 6 1 rfl rfl k (fun j => nI (un r k (r ch) j)) (rfl) (by omega) (by decide) (un_nI _ _ _) d_CO_sink_93 (fun H locs hP hD hS => ?_)
            have hP : va_P D classes (wC ad cL cI id ix wo fr fm tb mn vl (un r k (r ch)) so) H := hP
            have hD : va_D _ (wC ad cL cI id ix wo fr fm tb mn vl (un r k (r ch)) so) := hD
            refine lv_aload_n hx hb d_CO_sink_94 rfl (lv_at hl 1 rfl) ?_
            refine va_get (D := D) (ci := 1) (v := .ref (ad 6)) (C := R_CO) (T := F_CO) (N := 10) hx hb hts in_CO hown hk.1 hP 0 rfl rfl 8 (by decide) (hts _ m_31) (fun _ h9 => h9) rfl d_CO_sink_95 ?_
            refine lv_iload hx hb d_CO_sink_98 (lv_at hl 5 rfl) ?_
            refine lv_iload hx hb d_CO_sink_100 (lv_at hl 0 rfl) ?_
            refine xi_ast hx hb hk.1 hP hD hS 6 1 rfl rfl ch (fun j => nI ((sw r k ch) j)) (rfl) (by omega) (by decide) (un_nI _ _ _) d_CO_sink_102 (fun H locs hP hD hS => ?_)
            have hP : va_P D classes (wC ad cL cI id ix wo fr fm tb mn vl (sw r k ch) so) H := hP
            have hD : va_D _ (wC ad cL cI id ix wo fr fm tb mn vl (sw r k ch) so) := hD
            refine lv_iload hx hb d_CO_sink_103 (lv_at hl 5 rfl) ?_
            refine lv_istore_n (lv' := [(3, .int (nI ch)), (5, .int (nI (r k))), (0, .ref (ad 0)), (1, .int (nI fo)), (2, .int (nI n)), (4, .int (nI ch))]) hx hb d_CO_sink_105 rfl hl (by decide) rfl (fun ls hl => ?_)
            refine lv_goto (tgt := 2) hx hb d_CO_sink_106 (by decide) ?_
            have hl := lv_sub hl (l' := [(0, .ref (ad 0)), (1, .int (nI fo)), (2, .int (nI n)), (3, .int (nI ch))]) [2, 3, 4, 0] rfl
            exact ih (n - ch) (by omega) ch (sw r k ch) ls H locs rfl (by omega) (sk_step hi hch hcn hm (lc_of g5)) hl hP hD hS
          · have g5 : lc id ix (r ch) (r k) := fun q => g5 (hx0.mpr q)
            have he := sk_end hi (fun j hj hjn => lc_tr (hm j hj hjn) g5)
            exact Rt none r _ _ _ _ (rt_v d_CO_sink_72) (⟨rfl, he.1, he.2⟩) hP hS
        refine lv_iload hx hb d_CO_sink_18 (lv_at hl 0 rfl) ?_
        refine lv_iconst (v := nI 1) hx hb d_CO_sink_20 (by decide +kernel) ?_
        refine lv_iadd hx hb d_CO_sink_21 ?_
        refine lv_repi (nI (2 * k + 1 + 1)) (nI_1 _) ?_
        refine lv_iload_n hx hb d_CO_sink_22 rfl (lv_at hl 3 rfl) ?_
        refine lv_icmp_ge (tgt := 52) hx hb d_CO_sink_23 (by decide) (fun g2 => ?_) (fun g2 => ?_)
        · have g2 := (nI_leI (by omega) (by omega)).mp g2
          have hl := lv_sub hl (l' := [(0, .ref (ad 0)), (1, .int (nI fo)), (2, .int (nI n)), (3, .int (nI k)), (4, .int (nI (2 * k + 1)))]) [1, 2, 3, 4, 0] rfl
          exact k52 (2 * k + 1) ls H locs (Or.inl rfl) (by omega) (fun j hj hjn => by rcases hj with rfl | rfl; exact lc_rf; omega) hl hP hD hS
        · have g2 := Nat.lt_of_not_le (fun q => g2 ((nI_leI (by omega) (by omega)).mpr q))
          refine lv_aload_n hx hb d_CO_sink_26 rfl (lv_at hl 1 rfl) ?_
          refine lv_aload_n hx hb d_CO_sink_27 rfl (lv_at hl 1 rfl) ?_
          refine va_get (D := D) (ci := 1) (v := .ref (ad 6)) (C := R_CO) (T := F_CO) (N := 10) hx hb hts in_CO hown hk.1 hP 0 rfl rfl 8 (by decide) (hts _ m_31) (fun _ h9 => h9) rfl d_CO_sink_28 ?_
          refine lv_iload hx hb d_CO_sink_31 (lv_at hl 0 rfl) ?_
          refine lv_iconst (v := nI 1) hx hb d_CO_sink_33 (by decide +kernel) ?_
          refine lv_iadd hx hb d_CO_sink_34 ?_
          refine lv_repi (nI (2 * k + 1 + 1)) (nI_1 _) ?_
          refine xi_ald hx hb hk.1 hP 6 1 rfl rfl (2 * k + 1 + 1) (nI (r (2 * k + 1 + 1))) (rfl) (by omega) (by decide) (rfl) d_CO_sink_35 ?_
          refine lv_aload_n hx hb d_CO_sink_36 rfl (lv_at hl 1 rfl) ?_
          refine va_get (D := D) (ci := 1) (v := .ref (ad 6)) (C := R_CO) (T := F_CO) (N := 10) hx hb hts in_CO hown hk.1 hP 0 rfl rfl 8 (by decide) (hts _ m_31) (fun _ h9 => h9) rfl d_CO_sink_37 ?_
          refine lv_iload hx hb d_CO_sink_40 (lv_at hl 0 rfl) ?_
          refine xi_ald hx hb hk.1 hP 6 1 rfl rfl (2 * k + 1) (nI (r (2 * k + 1))) (rfl) (by omega) (by decide) (rfl) d_CO_sink_42 ?_
          refine ct_callV (w1 := []) (wc := (wC ad cL cI id ix wo fr fm tb mn vl r so)) (w2 := []) (As := [.int (nI (r (2 * k + 1 + 1))), .int (nI (r (2 * k + 1)))]) (rest := []) hx hb hml hown hts hk (c_CO_compare l D ad cL cI id ix wo fr fm tb mn vl r so (r (2 * k + 1 + 1)) (r (2 * k + 1)) (hr _ (by omega)).1 (hr _ (by omega)).1 (hr _ (by omega)).2 (hr _ (by omega)).2) 2 m_120 m_2 m_117 m_119 s_CO_compare (by decide +kernel) ⟨Nat.le_of_ble_eq_true rfl, Nat.le_of_ble_eq_true rfl⟩ ⟨rfl, rfl⟩ rfl rfl rfl hl.1 rfl (Nat.le_of_ble_eq_true rfl) d_CO_sink_43 ⟨Nat.le_of_ble_eq_true rfl, Nat.le_of_ble_eq_true rfl⟩ hP hD hS (fun _ => rfl) (fun v u H locs hv hP hD hS => ?_)
          obtain ⟨x, rfl, hx0⟩ := hv
          refine W.eq (g2 := F0 m 46 ls [.int x]) rfl ?_
          refine lv_if_le (tgt := 52) hx hb d_CO_sink_46 (by decide) (fun g3 => ?_) (fun g3 => ?_)
          · have g3 : lc id ix (r (2 * k + 1 + 1)) (r (2 * k + 1)) := fun q => Int32.not_lt.mpr g3 (hx0.mpr q)
            have hl := lv_sub hl (l' := [(0, .ref (ad 0)), (1, .int (nI fo)), (2, .int (nI n)), (3, .int (nI k)), (4, .int (nI (2 * k + 1)))]) [1, 2, 3, 4, 0] rfl
            exact k52 (2 * k + 1) ls H locs (Or.inl rfl) (by omega) (fun j hj hjn => by rcases hj with rfl | rfl; exact lc_rf; exact g3) hl hP hD hS
          · have g3 := hx0.mp (Int32.not_le.mp g3)
            refine lv_iinc (k := 0) (v := nI (2 * k + 2)) (lv' := [(4, .int (nI (2 * k + 2))), (0, .ref (ad 0)), (1, .int (nI fo)), (2, .int (nI n)), (3, .int (nI k))]) hx hb d_CO_sink_49 hl rfl (nv_inc _) (by decide) rfl (fun ls hl => ?_)
            have hl := lv_sub hl (l' := [(0, .ref (ad 0)), (1, .int (nI fo)), (2, .int (nI n)), (3, .int (nI k)), (4, .int (nI (2 * k + 2)))]) [1, 2, 3, 4, 0] rfl
            exact k52 (2 * k + 2) ls H locs (Or.inr rfl) (by omega) (fun j hj hjn => by rcases hj with rfl | rfl; exact lc_of g3; exact lc_rf) hl hP hD hS
  exact loop _ fo rw ls _ _ rfl hfo (sk_0 hh) hl hP hD hS
end
section
/-! walks, 4: Coins.sort, Coins.nth (printed by gen/g13.py) -/
/-- the first n of r are all the coins of the table, each once -/
def al (tb r : Nat → Nat) (n : Nat) : Prop := (∀ c, (∃ k, k < n ∧ r k = c) ↔ inT tb c) ∧ ∀ i j, i < n → j < n → r i = r j → i = j
theorem al_rg {tb r r' : Nat → Nat} {n : Nat} (h : al tb r n) (hg : rg r r' n) : al tb r' n := ⟨fun c => (hg.2.1 c).trans (h.1 c), hg.2.2 h.2⟩
theorem al_bd {id : Nat → Int64} {ix wo : Nat → Int32} {fr : Nat → Nat} {fm : Nat} {tb : Nat → Nat} {mn : Nat} {vl : Int64} {rw : Nat → Nat} {so : Int32} {a : AS} (h : rel id ix wo fr fm tb mn vl rw so a) {r : Nat → Nat} {n : Nat} (ha : al tb r n) : ∀ k, k < n → r k < 900 ∧ 0 ≤ ix (r k) ∧ ix (r k) ≤ 7 :=
  fun k hk => ⟨tv_lt h.1 ((ha.1 _).mp ⟨k, hk, rfl⟩), rel_num h ((ha.1 _).mp ⟨k, hk, rfl⟩)⟩
theorem al_n {tb : Nat → Nat} {id : Nat → Int64} {ix : Nat → Int32} (h : tv tb id ix) {r : Nat → Nat} {n : Nat} (ha : al tb r n) : n ≤ 900 := pg_hole 900 n r (fun k hk => tv_lt h ((ha.1 _).mp ⟨k, hk, rfl⟩)) ha.2
/-- so far as slot z -/
def alz (tb r : Nat → Nat) (n z : Nat) : Prop := (∀ c, (∃ k, k < n ∧ r k = c) ↔ (∃ x, x < z ∧ tb x = c + 1)) ∧ ∀ i j, i < n → j < n → r i = r j → i = j
theorem alz_0 {tb r : Nat → Nat} : alz tb r 0 0 := ⟨fun c => ⟨fun ⟨k, hk, _⟩ => absurd hk (Nat.not_lt_zero _), fun ⟨k, hk, _⟩ => absurd hk (Nat.not_lt_zero _)⟩, fun i j hi => absurd hi (Nat.not_lt_zero _)⟩
theorem alz_skip {tb r : Nat → Nat} {n z : Nat} (h : alz tb r n z) (h0 : tb z = 0) : alz tb r n (z + 1) := by
  refine ⟨fun c => (h.1 c).trans ⟨fun ⟨x, h1, h2⟩ => ⟨x, by omega, h2⟩, fun ⟨x, h1, h2⟩ => ⟨x, ?_, h2⟩⟩, h.2⟩
  have : x ≠ z := fun q => by rw [q] at h2; omega
  omega
theorem alz_new {tb r : Nat → Nat} {id : Nat → Int64} {ix : Nat → Int32} {n z : Nat} (ht : tv tb id ix) (h : alz tb r n z) (hz : z < 1024) (h0 : tb z ≠ 0) : ∀ k, k < n → r k ≠ tb z - 1 := by
  intro k hk q
  obtain ⟨x, x1, x2⟩ := (h.1 (r k)).mp ⟨k, hk, rfl⟩
  have := ht.2.1 z x hz (by omega) h0 (by omega)
  omega
theorem alz_lt {tb r : Nat → Nat} {id : Nat → Int64} {ix : Nat → Int32} {n z : Nat} (ht : tv tb id ix) (h : alz tb r n z) (hz : z < 1024) (h0 : tb z ≠ 0) : n < 900 := by
  have hne := alz_new ht h hz h0
  have hb : ∀ k, k < n → r k < 900 := by
    intro k hk
    obtain ⟨x, x1, x2⟩ := (h.1 (r k)).mp ⟨k, hk, rfl⟩
    exact tv_lt ht ⟨x, by omega, x2⟩
  have hz9 := ht.1 z hz
  have := pg_hole 900 (n + 1) (un r n (tb z - 1)) (fun k hk => by
    by_cases hkn : k = n
    · rw [hkn, un_eq]; omega
    · rw [un_ne hkn]; exact hb k (by omega)) (fun i j hi hj e => by
    by_cases hin : i = n <;> by_cases hjn : j = n
    · omega
    · rw [hin, un_eq, un_ne hjn] at e; exact absurd e.symm (hne j (by omega))
    · rw [hjn, un_eq, un_ne hin] at e; exact absurd e (hne i (by omega))
    · rw [un_ne hin, un_ne hjn] at e; exact h.2 i j (by omega) (by omega) e)
  omega
theorem alz_put {tb r : Nat → Nat} {id : Nat → Int64} {ix : Nat → Int32} {n z : Nat} (ht : tv tb id ix) (h : alz tb r n z) (hz : z < 1024) (h0 : tb z ≠ 0) : alz tb (un r n (tb z - 1)) (n + 1) (z + 1) := by
  have hne := alz_new ht h hz h0
  refine ⟨fun c => ⟨?_, ?_⟩, fun i j hi hj e => ?_⟩
  · rintro ⟨k, hk, e⟩
    by_cases hkn : k = n
    · rw [hkn, un_eq] at e; exact ⟨z, by omega, by omega⟩
    · rw [un_ne hkn] at e
      obtain ⟨x, x1, x2⟩ := (h.1 c).mp ⟨k, by omega, e⟩
      exact ⟨x, by omega, x2⟩
  · rintro ⟨x, hx, e⟩
    by_cases hxz : x = z
    · rw [hxz] at e; exact ⟨n, by omega, by rw [un_eq]; omega⟩
    · obtain ⟨k, k1, k2⟩ := (h.1 c).mpr ⟨x, by omega, e⟩
      exact ⟨k, by omega, by rw [un_ne (by omega)]; exact k2⟩
  · by_cases hin : i = n <;> by_cases hjn : j = n
    · omega
    · rw [hin, un_eq, un_ne hjn] at e; exact absurd e.symm (hne j (by omega))
    · rw [hjn, un_eq, un_ne hin] at e; exact absurd e (hne i (by omega))
    · rw [un_ne hin, un_ne hjn] at e; exact h.2 i j (by omega) (by omega) e
theorem nv_pred (k : Nat) : nI (k + 1) - nI 1 = nI k := nI_pred k
theorem nv_dd (k : Nat) : nI (k + 1) - nI 1 + Int32.ofInt (-1) = nI k - nI 1 := by
  rw [nv_pred, Int32.sub_eq_add_neg]
  rfl
theorem nv_rng {x : Int32} {n : Nat} (hn : n ≤ 900) (h1 : nI 0 ≤ x) (h2 : x ≤ nI n - nI 1) : ∃ j, j < n ∧ x = nI j := by
  rw [Int32.le_iff_toInt_le, nI_toInt (by decide)] at h1
  rw [Int32.le_iff_toInt_le, pk_sub_toInt (by omega) (by decide)] at h2
  have h0 : (0 : Int32).toInt = 0 := by decide
  have hx : ¬ x < 0 := by
    rw [Int32.lt_iff_toInt_lt]
    omega
  obtain ⟨j, j1, j2⟩ := nI_of hx
  subst j2
  rw [nI_toInt j1] at h2
  exact ⟨j, by omega, rfl⟩
theorem nv_out {x : Int32} {n : Nat} (hn : n ≤ 900) (h : ¬ (nI 0 ≤ x ∧ x ≤ nI n - nI 1)) : x < 0 ∨ nI n ≤ x := by
  rw [Int32.le_iff_toInt_le, Int32.le_iff_toInt_le, nI_toInt (by decide), pk_sub_toInt (by omega) (by decide)] at h
  rw [Int32.lt_iff_toInt_lt, Int32.le_iff_toInt_le, nI_toInt (n := n) (by omega)]
  have : (0 : Int32).toInt = 0 := by decide
  omega
abbrev rm_CO_sort : Room := { frames := 2, cells := 0, slots := 0, locals := 47 }
set_option maxHeartbeats 4000000 in
set_option maxRecDepth 100000 in
/-- sort(): row holds the coins in their order -/
theorem c_CO_sort (l : Launch) (D : va_G) (ad : Nat → Nat) (cL cI : ClassId) (id : Nat → Int64) (ix wo : Nat → Int32) (fr : Nat → Nat) (fm : Nat) (tb : Nat → Nat) (mn : Nat) (vl : Int64) (rw : Nat → Nat) (so : Int32) (a : AS) (h : rel id ix wo fr fm tb mn vl rw so a) : ct l y_CO_sort b_CO_sort 4 (none) rm_CO_sort [.ref (ad 0)] D cL cI (wC ad cL cI id ix wo fr fm tb mn vl rw so) (fun v (r : Nat → Nat) => v = none ∧ rel id ix wo fr fm tb mn vl r 1 a) (fun r => (wC ad cL cI id ix wo fr fm tb mn vl r 1)) := by
  refine ct_ofW (by decide) (Nat.le_of_ble_eq_true rfl) ?_
  intro p e s m below meth c Q ls hx hb hml hown hts hk hP hD hS hl Rt
  have hown : s.vm.findClass "NameTable$Coins" = some m.cls := hown
  have hl : lv_has ls 4 [(0, .ref (ad 0))] := hl
  refine lv_aload_n hx hb d_CO_sort_0 rfl (lv_at hl 0 rfl) ?_
  refine va_get (D := D) (ci := 1) (v := .int so) (C := R_CO) (T := F_CO) (N := 10) hx hb hts in_CO hown hk.1 hP 0 rfl rfl 9 (by decide) (hts _ m_32) (fun _ h9 => h9) rfl d_CO_sort_1 ?_
  refine lv_if_eq (tgt := 8) hx hb d_CO_sort_4 (by decide) (fun g0 => ?_) (fun g0 => ?_)
  · have k119 : ∀ (n : Nat) (r : Nat → Nat) (ls : Array Slot) (H : Heap) (locs : List Loc), al tb r n → (∀ i j, i < j → j < n → lc id ix (r i) (r j)) → lv_has ls 4 [(0, .ref (ad 0))] → va_P D classes (wC ad cL cI id ix wo fr fm tb mn vl r so) H → va_D (ad_ (wC ad cL cI id ix wo fr fm tb mn vl rw so)) (wC ad cL cI id ix wo fr fm tb mn vl r so) → va_S (ad_ (wC ad cL cI id ix wo fr fm tb mn vl rw so)) s.heap H locs → W p l e rm_CO_sort s m (List.toArray [.ref (ad 0)]) below meth c H locs 0 0 Q (F0 m 119 ls []) := by
      intro n r ls H locs hal hso hl hP hD hS
      have hq := (rel_sort h hal.1 hal.2 hso).2
      refine lv_aload_n hx hb d_CO_sort_119 rfl (lv_at hl 0 rfl) ?_
      refine lv_iconst (v := 1) hx hb d_CO_sort_120 (by decide +kernel) ?_
      refine va_put (D := D) (ci := 1) (v := .int 1) (ty := .boolean) (C := R_CO) (T := F_CO) (N := 10) hx hb hts in_CO t_CO t_CO_ok n_CO hown hk.1 hP hD hS 0 rfl rfl 9 (by decide) (hts _ m_32) (fun _ h9 => h9) rfl (by decide +kernel) rfl rfl (Nat.le_of_ble_eq_true rfl) d_CO_sort_121 (fun H locs hP hD hS => ?_)
      have hP : va_P D classes (wC ad cL cI id ix wo fr fm tb mn vl r 1) H := hP
      have hD : va_D _ (wC ad cL cI id ix wo fr fm tb mn vl r 1) := hD
      exact Rt none r _ _ _ _ (rt_v d_CO_sort_124) (⟨rfl, hq⟩) hP hS
    have loop3 : ∀ (q n : Nat) (r0 r : Nat → Nat) (ls : Array Slot) (H : Heap) (locs : List Loc), al tb r0 n → so_inv (lc id ix) r0 r n q → lv_has ls 4 [(0, .ref (ad 0)), (1, .int (nI n)), (2, .int (nI q - nI 1))] → va_P D classes (wC ad cL cI id ix wo fr fm tb mn vl r so) H → va_D (ad_ (wC ad cL cI id ix wo fr fm tb mn vl rw so)) (wC ad cL cI id ix wo fr fm tb mn vl r so) → va_S (ad_ (wC ad cL cI id ix wo fr fm tb mn vl rw so)) s.heap H locs → W p l e rm_CO_sort s m (List.toArray [.ref (ad 0)]) below meth c H locs 0 0 Q (F0 m 77 ls []) := by
      intro q
      induction q with
      | zero =>
        intro n r0 r ls H locs hal hi hl hP hD hS
        have hal2 := al_rg hal hi.2.2.2
        refine lv_iload_n hx hb d_CO_sort_77 rfl (lv_at hl 2 rfl) ?_
        refine lv_if_le (tgt := 119) hx hb d_CO_sort_78 (by decide) (fun g1 => ?_) (fun g1 => ?_)
        · have hl := lv_sub hl (l' := [(0, .ref (ad 0))]) [0] rfl
          exact k119 n r ls H locs hal2 (fun i j hij hj => hi.2.2.1 j (by omega) hj i hij) hl hP hD hS
        · exact absurd (by decide +kernel) g1
      | succ k ih =>
        intro n r0 r ls H locs hal hi hl hP hD hS
        have hal2 := al_rg hal hi.2.2.2
        have hn9 := al_n h.1 hal
        have hkn : k + 1 ≤ n := hi.1
        refine lv_iload_n hx hb d_CO_sort_77 rfl (lv_at hl 2 rfl) ?_
        refine lv_repi (nI k) (nv_pred k) ?_
        refine lv_if_le (tgt := 119) hx hb d_CO_sort_78 (by decide) (fun g1 => ?_) (fun g1 => ?_)
        · have g1 : k ≤ 0 := (nI_leI (by omega) (by decide)).mp g1
          have hl := lv_sub hl (l' := [(0, .ref (ad 0))]) [0] rfl
          exact k119 n r ls H locs hal2 (fun i j hij hj => hi.2.2.1 j (by omega) hj i hij) hl hP hD hS
        · have g1 : 0 < k := Nat.lt_of_not_le (fun q => g1 ((nI_leI (a := k) (b := 0) (by omega) (by decide)).mpr q))
          refine lv_aload_n hx hb d_CO_sort_81 rfl (lv_at hl 0 rfl) ?_
          refine va_get (D := D) (ci := 1) (v := .ref (ad 6)) (C := R_CO) (T := F_CO) (N := 10) hx hb hts in_CO hown hk.1 hP 0 rfl rfl 8 (by decide) (hts _ m_31) (fun _ h9 => h9) rfl d_CO_sort_82 ?_
          refine lv_iconst (v := nI 0) hx hb d_CO_sort_85 (by decide +kernel) ?_
          refine xi_ald hx hb hk.1 hP 6 1 rfl rfl 0 (nI (r 0)) (rfl) (by decide) (by decide) (rfl) d_CO_sort_86 ?_
          refine lv_istore_n (lv' := [(3, .int (nI (r 0))), (0, .ref (ad 0)), (1, .int (nI n)), (2, .int (nI (k + 1) - nI 1))]) hx hb d_CO_sort_87 rfl hl (by decide) rfl (fun ls hl => ?_)
          refine lv_aload_n hx hb d_CO_sort_88 rfl (lv_at hl 1 rfl) ?_
          refine va_get (D := D) (ci := 1) (v := .ref (ad 6)) (C := R_CO) (T := F_CO) (N := 10) hx hb hts in_CO hown hk.1 hP 0 rfl rfl 8 (by decide) (hts _ m_31) (fun _ h9 => h9) rfl d_CO_sort_89 ?_
          refine lv_iconst (v := nI 0) hx hb d_CO_sort_92 (by decide +kernel) ?_
          refine lv_aload_n hx hb d_CO_sort_93 rfl (lv_at hl 1 rfl) ?_
          refine va_get (D := D) (ci := 1) (v := .ref (ad 6)) (C := R_CO) (T := F_CO) (N := 10) hx hb hts in_CO hown hk.1 hP 0 rfl rfl 8 (by decide) (hts _ m_31) (fun _ h9 => h9) rfl d_CO_sort_94 ?_
          refine lv_iload_n hx hb d_CO_sort_97 rfl (lv_at hl 3 rfl) ?_
          refine lv_repi (nI k) (nv_pred k) ?_
          refine xi_ald hx hb hk.1 hP 6 1 rfl rfl k (nI (r k)) (rfl) (by omega) (by decide) (rfl) d_CO_sort_98 ?_
          refine xi_ast hx hb hk.1 hP hD hS 6 1 rfl rfl 0 (fun j => nI (un r 0 (r k) j)) (rfl) (by decide) (by decide) (un_nI _ _ _) d_CO_sort_99 (fun H locs hP hD hS => ?_)
          have hP : va_P D classes (wC ad cL cI id ix wo fr fm tb mn vl (un r 0 (r k)) so) H := hP
          have hD : va_D _ (wC ad cL cI id ix wo fr fm tb mn vl (un r 0 (r k)) so) := hD
          refine lv_aload_n hx hb d_CO_sort_100 rfl (lv_at hl 1 rfl) ?_
          refine va_get (D := D) (ci := 1) (v := .ref (ad 6)) (C := R_CO) (T := F_CO) (N := 10) hx hb hts in_CO hown hk.1 hP 0 rfl rfl 8 (by decide) (hts _ m_31) (fun _ h9 => h9) rfl d_CO_sort_101 ?_
          refine lv_iload_n hx hb d_CO_sort_104 rfl (lv_at hl 3 rfl) ?_
          refine lv_repi (nI k) (nv_pred k) ?_
          refine lv_iload_n hx hb d_CO_sort_105 rfl (lv_at hl 0 rfl) ?_
          refine xi_ast hx hb hk.1 hP hD hS 6 1 rfl rfl k (fun j => nI ((sw r 0 k) j)) (rfl) (by omega) (by decide) (un_nI _ _ _) d_CO_sort_106 (fun H locs hP hD hS => ?_)
          have hP : va_P D classes (wC ad cL cI id ix wo fr fm tb mn vl (sw r 0 k) so) H := hP
          have hD : va_D _ (wC ad cL cI id ix wo fr fm tb mn vl (sw r 0 k) so) := hD
          refine lv_aload_n hx hb d_CO_sort_107 rfl (lv_at hl 1 rfl) ?_
          refine lv_iconst (v := nI 0) hx hb d_CO_sort_108 (by decide +kernel) ?_
          refine lv_iload_n hx hb d_CO_sort_109 rfl (lv_at hl 3 rfl) ?_
          refine lv_repi (nI k) (nv_pred k) ?_
          have hb9 := al_bd h (al_rg hal2 (rg_sw (a := 0) (b := k) (by omega) (by omega)))
          refine ct_callV (w1 := []) (wc := (wC ad cL cI id ix wo fr fm tb mn vl (sw r 0 k) so)) (w2 := []) (As := [.int (nI 0), .int (nI k)]) (rest := []) hx hb hml hown hts hk (c_CO_sink l D ad cL cI id ix wo fr fm tb mn vl (sw r 0 k) so 0 k (by omega) (by omega) (fun j hj => hb9 j (by omega)) (so_pre hi g1)) 2 m_116 m_2 m_113 m_115 s_CO_sink (by decide +kernel) ⟨Nat.le_of_ble_eq_true rfl, Nat.le_of_ble_eq_true rfl⟩ ⟨rfl, rfl⟩ rfl rfl rfl hl.1 rfl (Nat.le_of_ble_eq_true rfl) d_CO_sort_110 ⟨Nat.le_of_ble_eq_true rfl, Nat.le_of_ble_eq_true rfl⟩ hP hD hS (fun _ => rfl) (fun v u H locs hv hP hD hS => ?_)
          obtain ⟨rfl, hv1, hv2⟩ := hv
          refine W.eq (g2 := F0 m 113 ls []) rfl ?_
          have hP : va_P D classes (wC ad cL cI id ix wo fr fm tb mn vl u so) H := hP
          have hD : va_D _ (wC ad cL cI id ix wo fr fm tb mn vl u so) := hD
          refine lv_iinc (k := 3) (v := nI k - nI 1) (lv' := [(2, .int (nI k - nI 1)), (3, .int (nI (r 0))), (0, .ref (ad 0)), (1, .int (nI n))]) hx hb d_CO_sort_113 hl rfl (nv_dd k) (by decide) rfl (fun ls hl => ?_)
          refine lv_goto (tgt := 77) hx hb d_CO_sort_116 (by decide) ?_
          have hl := lv_sub hl (l' := [(0, .ref (ad 0)), (1, .int (nI n)), (2, .int (nI k - nI 1))]) [2, 3, 0] rfl
          exact ih n r0 u ls H locs hal (so_step (fun _ => lc_rf) (fun _ _ _ => lc_tr) hi g1 hv1 hv2) hl hP hD hS
    have loop2 : ∀ (q n : Nat) (r0 r : Nat → Nat) (ls : Array Slot) (H : Heap) (locs : List Loc), al tb r0 n → rg r0 r n → (∀ j, q ≤ j → hp_at (lc id ix) r n j) → q ≤ n → lv_has ls 4 [(0, .ref (ad 0)), (1, .int (nI n)), (2, .int (nI q - nI 1))] → va_P D classes (wC ad cL cI id ix wo fr fm tb mn vl r so) H → va_D (ad_ (wC ad cL cI id ix wo fr fm tb mn vl rw so)) (wC ad cL cI id ix wo fr fm tb mn vl r so) → va_S (ad_ (wC ad cL cI id ix wo fr fm tb mn vl rw so)) s.heap H locs → W p l e rm_CO_sort s m (List.toArray [.ref (ad 0)]) below meth c H locs 0 0 Q (F0 m 57 ls []) := by
      intro q
      induction q with
      | zero =>
        intro n r0 r ls H locs hal hg hh hqn hl hP hD hS
        refine lv_iload_n hx hb d_CO_sort_57 rfl (lv_at hl 2 rfl) ?_
        refine lv_if_lt (tgt := 73) hx hb d_CO_sort_58 (by decide) (fun g1 => ?_) (fun g1 => ?_)
        · refine lv_iload_n hx hb d_CO_sort_73 rfl (lv_at hl 1 rfl) ?_
          refine lv_iconst (v := nI 1) hx hb d_CO_sort_74 (by decide +kernel) ?_
          refine lv_isub hx hb d_CO_sort_75 ?_
          refine lv_istore_n (lv' := [(2, .int ((nI n) - (nI 1))), (0, .ref (ad 0)), (1, .int (nI n))]) hx hb d_CO_sort_76 rfl hl (by decide) rfl (fun ls hl => ?_)
          have hl := lv_sub hl (l' := [(0, .ref (ad 0)), (1, .int (nI n)), (2, .int ((nI n) - (nI 1)))]) [1, 2, 0] rfl
          exact loop3 n n r0 r ls H locs hal ⟨Nat.le_refl _, fun j => hh j (Nat.zero_le _), fun j hj hjn => absurd hj (Nat.not_le_of_lt hjn), hg⟩ hl hP hD hS
        · exact absurd (by decide +kernel) g1
      | succ k ih =>
        intro n r0 r ls H locs hal hg hh hqn hl hP hD hS
        have hal2 := al_rg hal hg
        have hn9 := al_n h.1 hal
        refine lv_iload_n hx hb d_CO_sort_57 rfl (lv_at hl 2 rfl) ?_
        refine lv_repi (nI k) (nv_pred k) ?_
        refine lv_if_lt (tgt := 73) hx hb d_CO_sort_58 (by decide) (fun g1 => ?_) (fun g1 => ?_)
        · exact absurd g1 (nI_pos (by omega))
        · refine lv_aload_n hx hb d_CO_sort_61 rfl (lv_at hl 0 rfl) ?_
          refine lv_iload_n hx hb d_CO_sort_62 rfl (lv_at hl 2 rfl) ?_
          refine lv_repi (nI k) (nv_pred k) ?_
          refine lv_iload_n hx hb d_CO_sort_63 rfl (lv_at hl 1 rfl) ?_
          refine ct_callV (w1 := []) (wc := (wC ad cL cI id ix wo fr fm tb mn vl r so)) (w2 := []) (As := [.int (nI k), .int (nI n)]) (rest := []) hx hb hml hown hts hk (c_CO_sink l D ad cL cI id ix wo fr fm tb mn vl r so k n hn9 (by omega) (al_bd h hal2) (fun j hj => hh j hj)) 2 m_116 m_2 m_113 m_115 s_CO_sink (by decide +kernel) ⟨Nat.le_of_ble_eq_true rfl, Nat.le_of_ble_eq_true rfl⟩ ⟨rfl, rfl⟩ rfl rfl rfl hl.1 rfl (Nat.le_of_ble_eq_true rfl) d_CO_sort_64 ⟨Nat.le_of_ble_eq_true rfl, Nat.le_of_ble_eq_true rfl⟩ hP hD hS (fun _ => rfl) (fun v u H locs hv hP hD hS => ?_)
          obtain ⟨rfl, hv1, hv2⟩ := hv
          refine W.eq (g2 := F0 m 67 ls []) rfl ?_
          have hP : va_P D classes (wC ad cL cI id ix wo fr fm tb mn vl u so) H := hP
          have hD : va_D _ (wC ad cL cI id ix wo fr fm tb mn vl u so) := hD
          refine lv_iinc (k := 2) (v := nI k - nI 1) (lv' := [(2, .int (nI k - nI 1)), (0, .ref (ad 0)), (1, .int (nI n))]) hx hb d_CO_sort_67 hl rfl (nv_dd k) (by decide) rfl (fun ls hl => ?_)
          refine lv_goto (tgt := 57) hx hb d_CO_sort_70 (by decide) ?_
          have hl := lv_sub hl (l' := [(0, .ref (ad 0)), (1, .int (nI n)), (2, .int (nI k - nI 1))]) [1, 2, 0] rfl
          exact ih n r0 u ls H locs hal (rg_tr hg hv1) hv2 (by omega) hl hP hD hS
    have loop1 : ∀ (d z n : Nat) (r : Nat → Nat) (ls : Array Slot) (H : Heap) (locs : List Loc), 1024 - z = d → z ≤ 1024 → alz tb r n z → lv_has ls 4 [(0, .ref (ad 0)), (1, .int (nI n)), (2, .int (nI z))] → va_P D classes (wC ad cL cI id ix wo fr fm tb mn vl r so) H → va_D (ad_ (wC ad cL cI id ix wo fr fm tb mn vl rw so)) (wC ad cL cI id ix wo fr fm tb mn vl r so) → va_S (ad_ (wC ad cL cI id ix wo fr fm tb mn vl rw so)) s.heap H locs → W p l e rm_CO_sort s m (List.toArray [.ref (ad 0)]) below meth c H locs 0 0 Q (F0 m 12 ls []) := by
      intro d
      induction d using Nat.strongRecOn with
      | _ d ih =>
        intro z n r ls H locs hd hz hal hl hP hD hS
        refine lv_iload_n hx hb d_CO_sort_12 rfl (lv_at hl 2 rfl) ?_
        refine lv_sipush (v := nI 1024) hx hb d_CO_sort_13 (by decide +kernel) ?_
        refine lv_icmp_ge (tgt := 51) hx hb d_CO_sort_16 (by decide) (fun g1 => ?_) (fun g1 => ?_)
        · have g1 := (nI_leI (by omega) (by omega)).mp g1
          have hz2 : z = 1024 := by omega
          subst hz2
          have hal : al tb r n := hal
          have hn9 := al_n h.1 hal
          refine lv_iload_n hx hb d_CO_sort_51 rfl (lv_at hl 1 rfl) ?_
          refine lv_iconst (v := nI 2) hx hb d_CO_sort_52 (by decide +kernel) ?_
          refine lv_idiv hx hb d_CO_sort_53 (by decide +kernel) ?_
          refine lv_repi (nI (n / 2)) (pk_div (by omega) (by decide) (by decide)) ?_
          refine lv_iconst (v := nI 1) hx hb d_CO_sort_54 (by decide +kernel) ?_
          refine lv_isub hx hb d_CO_sort_55 ?_
          refine lv_istore_n (lv' := [(2, .int ((nI (n / 2)) - (nI 1))), (0, .ref (ad 0)), (1, .int (nI n))]) hx hb d_CO_sort_56 rfl hl (by decide) rfl (fun ls hl => ?_)
          have hl := lv_sub hl (l' := [(0, .ref (ad 0)), (1, .int (nI n)), (2, .int ((nI (n / 2)) - (nI 1)))]) [1, 2, 0] rfl
          exact loop2 (n / 2) n r r ls H locs hal (rg_rf _ _) (fun j hj i hi hin => by omega) (by omega) hl hP hD hS
        · have g1 := Nat.lt_of_not_le (fun q => g1 ((nI_leI (by omega) (by omega)).mpr q))
          have hz9 := h.1.1 z g1
          refine lv_aload_n hx hb d_CO_sort_19 rfl (lv_at hl 0 rfl) ?_
          refine va_get (D := D) (ci := 1) (v := .ref (ad 5)) (C := R_CO) (T := F_CO) (N := 10) hx hb hts in_CO hown hk.1 hP 0 rfl rfl 5 (by decide) (hts _ m_26) (fun _ h9 => h9) rfl d_CO_sort_20 ?_
          refine lv_iload_n hx hb d_CO_sort_23 rfl (lv_at hl 2 rfl) ?_
          refine xi_ald hx hb hk.1 hP 5 1 rfl rfl z (nI (tb z)) (rfl) (by omega) (by decide) (rfl) d_CO_sort_24 ?_
          refine lv_if_eq (tgt := 45) hx hb d_CO_sort_25 (by decide) (fun g2 => ?_) (fun g2 => ?_)
          · have g2 : tb z = 0 := (nI_eq (by omega) (by decide)).mp g2
            refine lv_iinc (k := 2) (v := nI (z + 1)) (lv' := [(2, .int (nI (z + 1))), (0, .ref (ad 0)), (1, .int (nI n))]) hx hb d_CO_sort_45 hl rfl (nv_inc _) (by decide) rfl (fun ls hl => ?_)
            refine lv_goto (tgt := 12) hx hb d_CO_sort_48 (by decide) ?_
            have hl := lv_sub hl (l' := [(0, .ref (ad 0)), (1, .int (nI n)), (2, .int (nI (z + 1)))]) [1, 2, 0] rfl
            exact ih (1024 - (z + 1)) (by omega) (z + 1) n r ls H locs rfl (by omega) (alz_skip hal g2) hl hP hD hS
          · have g2 : tb z ≠ 0 := fun q => g2 (by rw [q]; exact nI_0)
            have hn9 := alz_lt h.1 hal g1 g2
            refine lv_aload_n hx hb d_CO_sort_28 rfl (lv_at hl 0 rfl) ?_
            refine va_get (D := D) (ci := 1) (v := .ref (ad 6)) (C := R_CO) (T := F_CO) (N := 10) hx hb hts in_CO hown hk.1 hP 0 rfl rfl 8 (by decide) (hts _ m_31) (fun _ h9 => h9) rfl d_CO_sort_29 ?_
            refine lv_iload_n hx hb d_CO_sort_32 rfl (lv_at hl 1 rfl) ?_
            refine lv_iinc (k := 1) (v := nI (n + 1)) (lv' := [(1, .int (nI (n + 1))), (0, .ref (ad 0)), (2, .int (nI z))]) hx hb d_CO_sort_33 hl rfl (nv_inc _) (by decide) rfl (fun ls hl => ?_)
            refine lv_aload_n hx hb d_CO_sort_36 rfl (lv_at hl 1 rfl) ?_
            refine va_get (D := D) (ci := 1) (v := .ref (ad 5)) (C := R_CO) (T := F_CO) (N := 10) hx hb hts in_CO hown hk.1 hP 0 rfl rfl 5 (by decide) (hts _ m_26) (fun _ h9 => h9) rfl d_CO_sort_37 ?_
            refine lv_iload_n hx hb d_CO_sort_40 rfl (lv_at hl 2 rfl) ?_
            refine xi_ald hx hb hk.1 hP 5 1 rfl rfl z (nI (tb z)) (rfl) (by omega) (by decide) (rfl) d_CO_sort_41 ?_
            refine lv_iconst (v := nI 1) hx hb d_CO_sort_42 (by decide +kernel) ?_
            refine lv_isub hx hb d_CO_sort_43 ?_
            refine lv_repi (nI (tb z - 1)) (nv_sub1 (by omega)) ?_
            refine xi_ast hx hb hk.1 hP hD hS 6 1 rfl rfl n (fun j => nI (un r n (tb z - 1) j)) (rfl) (hn9) (by decide) (un_nI _ _ _) d_CO_sort_44 (fun H locs hP hD hS => ?_)
            have hP : va_P D classes (wC ad cL cI id ix wo fr fm tb mn vl (un r n (tb z - 1)) so) H := hP
            have hD : va_D _ (wC ad cL cI id ix wo fr fm tb mn vl (un r n (tb z - 1)) so) := hD
            refine lv_iinc (k := 2) (v := nI (z + 1)) (lv' := [(2, .int (nI (z + 1))), (1, .int (nI (n + 1))), (0, .ref (ad 0))]) hx hb d_CO_sort_45 hl rfl (nv_inc _) (by decide) rfl (fun ls hl => ?_)
            refine lv_goto (tgt := 12) hx hb d_CO_sort_48 (by decide) ?_
            have hl := lv_sub hl (l' := [(0, .ref (ad 0)), (1, .int (nI (n + 1))), (2, .int (nI (z + 1)))]) [2, 1, 0] rfl
            exact ih (1024 - (z + 1)) (by omega) (z + 1) (n + 1) (un r n (tb z - 1)) ls H locs rfl (by omega) (alz_put h.1 hal g1 g2) hl hP hD hS
    refine lv_iconst (v := nI 0) hx hb d_CO_sort_8 (by decide +kernel) ?_
    refine lv_istore_n (lv' := [(1, .int (nI 0)), (0, .ref (ad 0))]) hx hb d_CO_sort_9 rfl hl (by decide) rfl (fun ls hl => ?_)
    refine lv_iconst (v := nI 0) hx hb d_CO_sort_10 (by decide +kernel) ?_
    refine lv_istore_n (lv' := [(2, .int (nI 0)), (1, .int (nI 0)), (0, .ref (ad 0))]) hx hb d_CO_sort_11 rfl hl (by decide) rfl (fun ls hl => ?_)
    have hl := lv_sub hl (l' := [(0, .ref (ad 0)), (1, .int (nI 0)), (2, .int (nI 0))]) [2, 1, 0] rfl
    exact loop1 _ 0 0 rw ls _ _ rfl (by decide) alz_0 hl hP hD hS
  · have hso : so = 1 := by
      rcases h.2.2.2.2.2.2 with q | q
      · exact absurd q g0
      · exact q.1
    subst hso
    exact Rt none rw _ _ _ _ (rt_v d_CO_sort_7) (⟨rfl, h⟩) hP hS

abbrev rm_CO_nth : Room := { frames := 3, cells := 0, slots := 0, locals := 70 }
set_option maxHeartbeats 4000000 in
set_option maxRecDepth 100000 in
/-- nth(x): the x-th coin in the order of names, or -1 -/
theorem c_CO_nth (l : Launch) (D : va_G) (ad : Nat → Nat) (cL cI : ClassId) (id : Nat → Int64) (ix wo : Nat → Int32) (fr : Nat → Nat) (fm : Nat) (tb : Nat → Nat) (mn : Nat) (vl : Int64) (rw : Nat → Nat) (so : Int32) (a : AS) (h : rel id ix wo fr fm tb mn vl rw so a) (x : Int32) : ct l y_CO_nth b_CO_nth 2 (some .int) rm_CO_nth [.ref (ad 0), .int x] D cL cI (wC ad cL cI id ix wo fr fm tb mn vl rw so) (fun v (u : (Nat → Nat) × Int32) => rel id ix wo fr fm tb mn vl u.1 u.2 a ∧ (((x < 0 ∨ nI a.1 ≤ x) ∧ v = some (.int (-1))) ∨ ∃ j c0, j < a.1 ∧ x = nI j ∧ v = some (.int (nI c0)) ∧ inT tb c0 ∧ ent a id ix wo j c0)) (fun u => (wC ad cL cI id ix wo fr fm tb mn vl u.1 u.2)) := by
  refine ct_ofW (by decide) (Nat.le_of_ble_eq_true rfl) ?_
  intro p e s m below meth c Q ls hx hb hml hown hts hk hP hD hS hl Rt
  have hown : s.vm.findClass "NameTable$Coins" = some m.cls := hown
  have hl : lv_has ls 2 [(0, .ref (ad 0)), (1, .int x)] := hl
  have hn9 : a.1 ≤ 900 := h.2.2.2.1.1
  have hmn : mn = a.1 := h.2.1.1
  refine lv_iload_n hx hb d_CO_nth_0 rfl (lv_at hl 1 rfl) ?_
  refine lv_iconst (v := nI 0) hx hb d_CO_nth_1 (by decide +kernel) ?_
  refine lv_aload_n hx hb d_CO_nth_2 rfl (lv_at hl 0 rfl) ?_
  refine va_get (D := D) (ci := 1) (v := .int (nI mn)) (C := R_CO) (T := F_CO) (N := 10) hx hb hts in_CO hown hk.1 hP 0 rfl rfl 6 (by decide) (hts _ m_28) (fun _ h9 => h9) rfl d_CO_nth_3 ?_
  refine lv_iconst (v := nI 1) hx hb d_CO_nth_6 (by decide +kernel) ?_
  refine lv_isub hx hb d_CO_nth_7 ?_
  refine ct_callSN (As := [.int x, .int (nI 0), .int ((nI mn) - (nI 1))]) (rest := []) hx hb hml hown hts hk (c_NT_in l D cL cI x (nI 0) (nI mn - nI 1)) 3 m_66 m_1 hk.2.2.2.2 m_65 (by decide +kernel) ⟨Nat.le_of_ble_eq_true rfl, Nat.le_of_ble_eq_true rfl⟩ ⟨rfl, rfl⟩ rfl hl.1 rfl (Nat.le_of_ble_eq_true rfl) d_CO_nth_8 ⟨Nat.le_of_ble_eq_true rfl, Nat.le_of_ble_eq_true rfl⟩ hP hD hS (fun v H locs hv hP hS => ?_)
  obtain ⟨r, rfl, hr⟩ := hv
  refine W.eq (g2 := F0 m 11 ls [.int r]) rfl ?_
  refine lv_if_ne (tgt := 16) hx hb d_CO_nth_11 (by decide) (fun g1 => ?_) (fun g1 => ?_)
  · have hj : ∃ j, j < a.1 ∧ x = nI j := by
      rcases hr with ⟨-, q1, q2⟩ | ⟨q, -⟩
      · rw [hmn] at q2; exact nv_rng hn9 q1 q2
      · exact absurd q g1
    obtain ⟨j, hj1, hj2⟩ := hj
    refine lv_aload_n hx hb d_CO_nth_16 rfl (lv_at hl 0 rfl) ?_
    refine ct_callV (w1 := []) (wc := (wC ad cL cI id ix wo fr fm tb mn vl rw so)) (w2 := []) (As := []) (rest := []) hx hb hml hown hts hk (c_CO_sort l D ad cL cI id ix wo fr fm tb mn vl rw so a h) 0 m_112 m_2 m_109 m_111 s_CO_sort (by decide +kernel) ⟨Nat.le_of_ble_eq_true rfl, Nat.le_of_ble_eq_true rfl⟩ ⟨rfl, rfl⟩ rfl rfl rfl hl.1 rfl (Nat.le_of_ble_eq_true rfl) d_CO_nth_17 ⟨Nat.le_of_ble_eq_true rfl, Nat.le_of_ble_eq_true rfl⟩ hP hD hS (fun _ => rfl) (fun v u H locs hv hP hD hS => ?_)
    obtain ⟨rfl, hv⟩ := hv
    refine W.eq (g2 := F0 m 20 ls []) rfl ?_
    have hP : va_P D classes (wC ad cL cI id ix wo fr fm tb mn vl u 1) H := hP
    have hD : va_D _ (wC ad cL cI id ix wo fr fm tb mn vl u 1) := hD
    have hq := hv.2.2.2.2.2.2
    have hq : ∀ k, k < a.1 → inT tb (u k) ∧ ent a id ix wo k (u k) := by
      rcases hq with q | q
      · exact absurd q (by decide)
      · exact q.2
    refine lv_aload_n hx hb d_CO_nth_20 rfl (lv_at hl 0 rfl) ?_
    refine va_get (D := D) (ci := 1) (v := .ref (ad 6)) (C := R_CO) (T := F_CO) (N := 10) hx hb hts in_CO hown hk.1 hP 0 rfl rfl 8 (by decide) (hts _ m_31) (fun _ h9 => h9) rfl d_CO_nth_21 ?_
    refine lv_iload_n hx hb d_CO_nth_24 rfl (lv_at hl 1 rfl) ?_
    refine xi_ald hx hb hk.1 hP 6 1 rfl rfl j (nI (u j)) (hj2) (by omega) (by decide) (rfl) d_CO_nth_25 ?_
    exact Rt (some (.int (nI (u j)))) (u, 1) _ _ _ _ (rt_i d_CO_nth_26) (⟨hv, Or.inr ⟨j, u j, hj1, hj2, rfl, (hq j hj1).1, (hq j hj1).2⟩⟩) hP hS
  · have hj : x < 0 ∨ nI a.1 ≤ x := by
      rcases hr with ⟨q, -⟩ | ⟨-, q⟩
      · rw [g1] at q; exact absurd q (by decide)
      · rw [hmn] at q; exact nv_out hn9 q
    refine lv_iconst (v := (-1)) hx hb d_CO_nth_14 (by decide +kernel) ?_
    exact Rt (some (.int (-1))) (rw, so) _ _ _ _ (rt_i d_CO_nth_15) (⟨h, Or.inl ⟨hj, rfl⟩⟩) hP hS
end
section
/-! walks, 5: NameTable's methods (printed by gen/g14.py) -/
abbrev CS : Type := (Nat → Int64) × (Nat → Int32) × (Nat → Int32) × (Nat → Nat) × Nat × (Nat → Nat) × Nat × Int64 × (Nat → Nat) × Int32
/-- the world of a NameTable: the object at ax, its Coins behind it -/
abbrev wX (ax : Nat) (ad : Nat → Nat) (cL cI : ClassId) (u : CS) : va_W := [(ax, .inr (0, [.ref (ad 0)]))] ++ wC ad cL cI u.1 u.2.1 u.2.2.1 u.2.2.2.1 u.2.2.2.2.1 u.2.2.2.2.2.1 u.2.2.2.2.2.2.1 u.2.2.2.2.2.2.2.1 u.2.2.2.2.2.2.2.2.1 u.2.2.2.2.2.2.2.2.2 ++ []
abbrev relS (u : CS) (a : AS) : Prop := rel u.1 u.2.1 u.2.2.1 u.2.2.2.1 u.2.2.2.2.1 u.2.2.2.2.2.1 u.2.2.2.2.2.2.1 u.2.2.2.2.2.2.2.1 u.2.2.2.2.2.2.2.2.1 u.2.2.2.2.2.2.2.2.2 a
theorem a_add_1 {a : AS} {name : Int64} {i v : Int32} (h : i < 0 ∨ 7 < i ∨ v < 0) : a_add a name i v = (-1, a) := if_pos h
theorem a_add_3 {a : AS} {name : Int64} {i v : Int32} (h : ¬ (i < 0 ∨ 7 < i ∨ v < 0)) (h2 : a_has a name i) : a_add a name i v = (-3, a) := by unfold a_add; rw [if_neg h, if_pos h2]
theorem a_add_4 {a : AS} {name : Int64} {i v : Int32} (h : ¬ (i < 0 ∨ 7 < i ∨ v < 0)) (h2 : ¬ a_has a name i) (h3 : a.1 = 900) : a_add a name i v = (-4, a) := by unfold a_add; rw [if_neg h, if_neg h2, if_pos h3]
theorem a_add_5 {a : AS} {name : Int64} {i v : Int32} (h : ¬ (i < 0 ∨ 7 < i ∨ v < 0)) (h2 : ¬ a_has a name i) (h3 : ¬ a.1 = 900) : a_add a name i v = (nI (a.1 + 1), a_ins a name i v) := by unfold a_add; rw [if_neg h, if_neg h2, if_neg h3]
theorem a_rem_1 {a : AS} {name : Int64} {i : Int32} (h : i < 0 ∨ 7 < i) : a_rem a name i = (-1, a) := if_pos h
theorem a_rem_2 {a : AS} {name : Int64} {i : Int32} (h : ¬ (i < 0 ∨ 7 < i)) (h2 : ¬ a_has a name i) : a_rem a name i = (-2, a) := by unfold a_rem; rw [if_neg h, if_neg h2]
theorem a_rem_3 {a : AS} {name : Int64} {i : Int32} (h : ¬ (i < 0 ∨ 7 < i)) (h2 : a_has a name i) : a_rem a name i = (a.2.2.2 (a_pl a name i), a_del a (a_pl a name i)) := by unfold a_rem; rw [if_neg h, if_pos h2]
theorem a_get_1 {a : AS} {name : Int64} {i : Int32} (h : i < 0 ∨ 7 < i) : a_get a name i = -1 := if_pos h
theorem a_get_2 {a : AS} {name : Int64} {i : Int32} (h : ¬ (i < 0 ∨ 7 < i)) (h2 : ¬ a_has a name i) : a_get a name i = -2 := by unfold a_get; rw [if_neg h, if_neg h2]
theorem a_get_3 {a : AS} {name : Int64} {i : Int32} (h : ¬ (i < 0 ∨ 7 < i)) (h2 : a_has a name i) : a_get a name i = a.2.2.2 (a_pl a name i) := by unfold a_get; rw [if_neg h, if_pos h2]
theorem nv_ins {a : AS} (ha : a.1 ≤ 900) {j : Nat} (hj : j < a.1) : ¬ (nI j < 0 ∨ nI a.1 ≤ nI j) := by
  rintro (q | q)
  · exact nI_pos (by omega) q
  · exact nI_ge hj (by omega) q
theorem a_take_1 {a : AS} {x : Int32} (h : x < 0 ∨ nI a.1 ≤ x) : a_take a x = (-2, a) := if_pos h
theorem a_take_2 {a : AS} (ha : a.1 ≤ 900) {j : Nat} (hj : j < a.1) : a_take a (nI j) = (a.2.2.2 j, a_del a j) := by unfold a_take; rw [if_neg (nv_ins ha hj), nI_clamp (by omega)]
theorem a_name_1 {a : AS} {x : Int32} (h : x < 0 ∨ nI a.1 ≤ x) : a_name a x = 0 := if_pos h
theorem a_name_2 {a : AS} (ha : a.1 ≤ 900) {j : Nat} (hj : j < a.1) : a_name a (nI j) = a.2.1 j := by unfold a_name; rw [if_neg (nv_ins ha hj), nI_clamp (by omega)]
theorem a_index_1 {a : AS} {x : Int32} (h : x < 0 ∨ nI a.1 ≤ x) : a_index a x = -2 := if_pos h
theorem a_index_2 {a : AS} (ha : a.1 ≤ 900) {j : Nat} (hj : j < a.1) : a_index a (nI j) = a.2.2.1 j := by unfold a_index; rw [if_neg (nv_ins ha hj), nI_clamp (by omega)]
theorem nv_o2 {x lo hi : Int32} {A : Prop} (h : ¬ (lo ≤ x ∧ x ≤ hi)) (h1 : x < lo → A) (h2 : hi < x → A) : A := by
  by_cases q : x < lo
  · exact h1 q
  · by_cases q2 : hi < x
    · exact h2 q2
    · exact absurd ⟨Int32.not_lt.mp q, Int32.not_lt.mp q2⟩ h
theorem nv_i2 {x lo hi : Int32} (h : lo ≤ x ∧ x ≤ hi) : ¬ (x < lo ∨ hi < x) := by
  rintro (q | q)
  · exact absurd h.1 (Int32.not_le.mpr q)
  · exact absurd h.2 (Int32.not_le.mpr q)
abbrev rm_NT_add : Room := { frames := 3, cells := 0, slots := 0, locals := 73 }
set_option maxHeartbeats 4000000 in
set_option maxRecDepth 100000 in
/-- add -/
theorem c_NT_add (l : Launch) (D : va_G) (ax : Nat) (ad : Nat → Nat) (cL cI : ClassId) (u0 : CS) (a : AS) (h : relS u0 a) (name : Int64) (i v0 : Int32) : ct l y_NT_add b_NT_add 5 (some .int) rm_NT_add [.ref ax, .long name, .int i, .int v0] D cL cI (wX ax ad cL cI u0) (fun v u => v = some (.int (a_add a name i v0).1) ∧ relS u (a_add a name i v0).2) (wX ax ad cL cI) := by
  obtain ⟨id, ix, wo, fr, fm, tb, mn, vl, rw, so⟩ := u0
  have h : rel id ix wo fr fm tb mn vl rw so a := h
  have hn9 : a.1 ≤ 900 := h.2.2.2.1.1
  have hmn : mn = a.1 := h.2.1.1
  have hfm : fm + a.1 = 900 := h.2.1.2
  refine ct_ofW (by decide) (Nat.le_of_ble_eq_true rfl) ?_
  intro p e s m below meth c Q ls hx hb hml hown hts hk hP hD hS hl Rt
  have hown : s.vm.findClass "NameTable" = some m.cls := hown
  have hl : lv_has ls 5 [(0, .ref ax), (1, .long name), (3, .int i), (4, .int v0)] := hl
  have hP : va_P D classes ([(ax, .inr (0, [.ref (ad 0)]))] ++ (wC ad cL cI id ix wo fr fm tb mn vl rw so) ++ []) s.heap := hP
  have hD : va_D _ ([(ax, .inr (0, [.ref (ad 0)]))] ++ (wC ad cL cI id ix wo fr fm tb mn vl rw so) ++ []) := hD
  refine lv_iload_n hx hb d_NT_add_0 rfl (lv_at hl 2 rfl) ?_
  refine lv_iconst (v := nI 0) hx hb d_NT_add_1 (by decide +kernel) ?_
  refine lv_bipush (v := nI 7) hx hb d_NT_add_2 (by decide +kernel) ?_
  refine ct_callS (As := [.int i, .int (nI 0), .int (nI 7)]) (rest := []) hx hb hml hown hts hk (c_NT_in l D cL cI i (nI 0) (nI 7)) 3 m_66 m_1 m_64 m_65 (by decide +kernel) ⟨Nat.le_of_ble_eq_true rfl, Nat.le_of_ble_eq_true rfl⟩ ⟨rfl, rfl⟩ rfl hl.1 rfl (Nat.le_of_ble_eq_true rfl) d_NT_add_4 ⟨Nat.le_of_ble_eq_true rfl, Nat.le_of_ble_eq_true rfl⟩ hP hD hS (fun v H locs hv hP hS => ?_)
  obtain ⟨r, rfl, hr⟩ := hv
  refine W.eq (g2 := F0 m 7 ls [.int r]) rfl ?_
  refine lv_if_eq (tgt := 15) hx hb d_NT_add_7 (by decide) (fun g1 => ?_) (fun g1 => ?_)
  · have hr : ¬ (nI 0 ≤ i ∧ i ≤ nI 7) := by
      rcases hr with ⟨q, -⟩ | ⟨-, q⟩
      · rw [g1] at q; exact absurd q (by decide)
      · exact q
    have e1 := a_add_1 (a := a) (name := name) (v := v0) (nv_o2 (A := i < 0 ∨ 7 < i ∨ v0 < 0) hr (fun q => Or.inl q) (fun q => Or.inr (Or.inl q)))
    refine lv_iconst (v := (-1)) hx hb d_NT_add_15 (by decide +kernel) ?_
    exact Rt (some (.int (-1))) (id, ix, wo, fr, fm, tb, mn, vl, rw, so) _ _ _ _ (rt_i d_NT_add_16) (⟨by rw [e1], by rw [e1]; exact h⟩) hP hS
  · have hr : nI 0 ≤ i ∧ i ≤ nI 7 := by
      rcases hr with ⟨-, q⟩ | ⟨q, -⟩
      · exact q
      · exact absurd q g1
    refine lv_iload hx hb d_NT_add_10 (lv_at hl 3 rfl) ?_
    refine lv_if_ge (tgt := 17) hx hb d_NT_add_12 (by decide) (fun g2 => ?_) (fun g2 => ?_)
    · have hi7 : ¬ (i < 0 ∨ 7 < i ∨ v0 < 0) := by
        rintro (q | q | q)
        · exact nv_i2 hr (Or.inl q)
        · exact nv_i2 hr (Or.inr q)
        · exact absurd g2 (Int32.not_le.mpr q)
      refine lv_aload_n hx hb d_NT_add_17 rfl (lv_at hl 0 rfl) ?_
      refine va_get (D := D) (ci := 0) (v := .ref (ad 0)) (C := R_NT) (T := F_NT) (N := 1) hx hb hts in_NT hown hk.1 hP 0 rfl rfl 0 (by decide) (hts _ m_56) (fun _ h9 => h9) rfl d_NT_add_18 ?_
      refine lv_lload_n hx hb d_NT_add_21 rfl (lv_at hl 1 rfl) ?_
      refine lv_iload_n hx hb d_NT_add_22 rfl (lv_at hl 2 rfl) ?_
      refine ct_callV (w1 := [(ax, .inr (0, [.ref (ad 0)]))]) (wc := (wC ad cL cI id ix wo fr fm tb mn vl rw so)) (w2 := []) (As := [.long name, .int i]) (rest := []) hx hb hml hown hts hk (c_CO_get l D ad cL cI id ix wo fr fm tb mn vl rw so name i h.1) 2 m_70 m_2 m_67 m_68 m_69 (by decide +kernel) ⟨Nat.le_of_ble_eq_true rfl, Nat.le_of_ble_eq_true rfl⟩ ⟨rfl, rfl⟩ rfl rfl rfl hl.1 rfl (Nat.le_of_ble_eq_true rfl) d_NT_add_23 ⟨Nat.le_of_ble_eq_true rfl, Nat.le_of_ble_eq_true rfl⟩ hP hD hS (fun _ => rfl) (fun v u H locs hv hP hD hS => ?_)
      obtain ⟨r2, rfl, hr2⟩ := hv
      refine W.eq (g2 := F0 m 26 ls [.int r2]) rfl ?_
      refine lv_if_lt (tgt := 32) hx hb d_NT_add_26 (by decide) (fun g3 => ?_) (fun g3 => ?_)
      · have hno : ∀ c0, inT tb c0 → ¬ (id c0 = name ∧ ix c0 = i) := by
          rcases hr2 with ⟨c0, q, q2, -⟩ | ⟨-, q⟩
          · rw [q] at g3; exact absurd g3 (nI_pos (by omega))
          · exact q
        have hna := rel_hasnt h hno
        refine lv_aload_n hx hb d_NT_add_32 rfl (lv_at hl 0 rfl) ?_
        refine va_get (D := D) (ci := 0) (v := .ref (ad 0)) (C := R_NT) (T := F_NT) (N := 1) hx hb hts in_NT hown hk.1 hP 0 rfl rfl 0 (by decide) (hts _ m_56) (fun _ h9 => h9) rfl d_NT_add_33 ?_
        refine va_get (D := D) (ci := 1) (v := .int (nI mn)) (C := R_CO) (T := F_CO) (N := 10) hx hb hts in_CO hown hk.1 hP 1 rfl rfl 6 (by decide) (hts _ m_27) (fun _ h9 => h9) rfl d_NT_add_36 ?_
        refine lv_sipush (v := nI 900) hx hb d_NT_add_39 (by decide +kernel) ?_
        refine lv_icmp_ne (tgt := 48) hx hb d_NT_add_42 (by decide) (fun g4 => ?_) (fun g4 => ?_)
        · have g4 : ¬ a.1 = 900 := fun q => g4 (by rw [hmn, q])
          obtain ⟨f1, f2, f3, f4⟩ := rel_free h (by omega)
          have e1 := a_add_5 hi7 hna g4
          refine lv_aload_n hx hb d_NT_add_48 rfl (lv_at hl 0 rfl) ?_
          refine va_get (D := D) (ci := 0) (v := .ref (ad 0)) (C := R_NT) (T := F_NT) (N := 1) hx hb hts in_NT hown hk.1 hP 0 rfl rfl 0 (by decide) (hts _ m_56) (fun _ h9 => h9) rfl d_NT_add_49 ?_
          refine lv_lload_n hx hb d_NT_add_52 rfl (lv_at hl 1 rfl) ?_
          refine lv_iload_n hx hb d_NT_add_53 rfl (lv_at hl 2 rfl) ?_
          refine lv_iload hx hb d_NT_add_54 (lv_at hl 3 rfl) ?_
          refine ct_callV (w1 := [(ax, .inr (0, [.ref (ad 0)]))]) (wc := (wC ad cL cI id ix wo fr fm tb mn vl rw so)) (w2 := []) (As := [.long name, .int i, .int v0]) (rest := []) hx hb hml hown hts hk (c_CO_add l D ad cL cI id ix wo fr fm tb mn vl rw so name i v0 h.1 f1 f2 f3 f4 hno) 3 m_86 m_2 m_83 m_84 m_85 (by decide +kernel) ⟨Nat.le_of_ble_eq_true rfl, Nat.le_of_ble_eq_true rfl⟩ ⟨rfl, rfl⟩ rfl rfl rfl hl.1 rfl (Nat.le_of_ble_eq_true rfl) d_NT_add_56 ⟨Nat.le_of_ble_eq_true rfl, Nat.le_of_ble_eq_true rfl⟩ hP hD hS (fun _ => rfl) (fun v u H locs hv hP hD hS => ?_)
          obtain ⟨rfl, hv1, hv2⟩ := hv
          refine W.eq (g2 := F0 m 59 ls []) rfl ?_
          have hP : va_P D classes ([(ax, .inr (0, [.ref (ad 0)]))] ++ (wC ad cL cI (vp_updL id (fr (fm - 1)) name) (upd ix (fr (fm - 1)) i) (upd wo (fr (fm - 1)) v0) fr (fm - 1) u (mn + 1) (vl + v0.toInt64) rw 0) ++ []) H := hP
          have hD : va_D _ ([(ax, .inr (0, [.ref (ad 0)]))] ++ (wC ad cL cI (vp_updL id (fr (fm - 1)) name) (upd ix (fr (fm - 1)) i) (upd wo (fr (fm - 1)) v0) fr (fm - 1) u (mn + 1) (vl + v0.toInt64) rw 0) ++ []) := hD
          refine lv_aload_n hx hb d_NT_add_59 rfl (lv_at hl 0 rfl) ?_
          refine va_get (D := D) (ci := 0) (v := .ref (ad 0)) (C := R_NT) (T := F_NT) (N := 1) hx hb hts in_NT hown hk.1 hP 0 rfl rfl 0 (by decide) (hts _ m_56) (fun _ h9 => h9) rfl d_NT_add_60 ?_
          refine va_get (D := D) (ci := 1) (v := .int (nI (mn + 1))) (C := R_CO) (T := F_CO) (N := 10) hx hb hts in_CO hown hk.1 hP 1 rfl rfl 6 (by decide) (hts _ m_27) (fun _ h9 => h9) rfl d_NT_add_63 ?_
          exact Rt (some (.int (nI (mn + 1)))) (vp_updL id (fr (fm - 1)) name, upd ix (fr (fm - 1)) i, upd wo (fr (fm - 1)) v0, fr, fm - 1, u, mn + 1, vl + v0.toInt64, rw, 0) _ _ _ _ (rt_i d_NT_add_66) (⟨by rw [e1, hmn], by rw [e1]; exact rel_add h hna (by omega) hr hv1 hv2⟩) hP hS
        · have g4 : a.1 = 900 := by rw [← hmn]; exact (nI_eq (by omega) (by decide)).mp g4
          have e1 := a_add_4 hi7 hna g4
          refine lv_bipush (v := (-4)) hx hb d_NT_add_45 (by decide +kernel) ?_
          exact Rt (some (.int (-4))) (id, ix, wo, fr, fm, tb, mn, vl, rw, so) _ _ _ _ (rt_i d_NT_add_47) (⟨by rw [e1], by rw [e1]; exact h⟩) hP hS
      · have e1 : a_add a name i v0 = (-3, a) := by
          rcases hr2 with ⟨c0, -, -, q1, q2, q3⟩ | ⟨q, -⟩
          · exact a_add_3 hi7 (rel_has h q1 q2 q3).1
          · rw [q] at g3; exact absurd (by decide) g3
        refine lv_bipush (v := (-3)) hx hb d_NT_add_29 (by decide +kernel) ?_
        exact Rt (some (.int (-3))) (id, ix, wo, fr, fm, tb, mn, vl, rw, so) _ _ _ _ (rt_i d_NT_add_31) (⟨by rw [e1], by rw [e1]; exact h⟩) hP hS
    · have e1 := a_add_1 (a := a) (name := name) (i := i) (Or.inr (Or.inr (Int32.not_le.mp g2)))
      refine lv_iconst (v := (-1)) hx hb d_NT_add_15 (by decide +kernel) ?_
      exact Rt (some (.int (-1))) (id, ix, wo, fr, fm, tb, mn, vl, rw, so) _ _ _ _ (rt_i d_NT_add_16) (⟨by rw [e1], by rw [e1]; exact h⟩) hP hS

abbrev rm_NT_remove : Room := { frames := 3, cells := 0, slots := 0, locals := 73 }
set_option maxHeartbeats 4000000 in
set_option maxRecDepth 100000 in
/-- remove -/
theorem c_NT_remove (l : Launch) (D : va_G) (ax : Nat) (ad : Nat → Nat) (cL cI : ClassId) (u0 : CS) (a : AS) (h : relS u0 a) (name : Int64) (i : Int32) : ct l y_NT_remove b_NT_remove 5 (some .int) rm_NT_remove [.ref ax, .long name, .int i] D cL cI (wX ax ad cL cI u0) (fun v u => v = some (.int (a_rem a name i).1) ∧ relS u (a_rem a name i).2) (wX ax ad cL cI) := by
  obtain ⟨id, ix, wo, fr, fm, tb, mn, vl, rw, so⟩ := u0
  have h : rel id ix wo fr fm tb mn vl rw so a := h
  have hn9 : a.1 ≤ 900 := h.2.2.2.1.1
  have hmn : mn = a.1 := h.2.1.1
  have hfm : fm + a.1 = 900 := h.2.1.2
  refine ct_ofW (by decide) (Nat.le_of_ble_eq_true rfl) ?_
  intro p e s m below meth c Q ls hx hb hml hown hts hk hP hD hS hl Rt
  have hown : s.vm.findClass "NameTable" = some m.cls := hown
  have hl : lv_has ls 5 [(0, .ref ax), (1, .long name), (3, .int i)] := hl
  have hP : va_P D classes ([(ax, .inr (0, [.ref (ad 0)]))] ++ (wC ad cL cI id ix wo fr fm tb mn vl rw so) ++ []) s.heap := hP
  have hD : va_D _ ([(ax, .inr (0, [.ref (ad 0)]))] ++ (wC ad cL cI id ix wo fr fm tb mn vl rw so) ++ []) := hD
  refine lv_iload_n hx hb d_NT_remove_0 rfl (lv_at hl 2 rfl) ?_
  refine lv_iconst (v := nI 0) hx hb d_NT_remove_1 (by decide +kernel) ?_
  refine lv_bipush (v := nI 7) hx hb d_NT_remove_2 (by decide +kernel) ?_
  refine ct_callS (As := [.int i, .int (nI 0), .int (nI 7)]) (rest := []) hx hb hml hown hts hk (c_NT_in l D cL cI i (nI 0) (nI 7)) 3 m_66 m_1 m_64 m_65 (by decide +kernel) ⟨Nat.le_of_ble_eq_true rfl, Nat.le_of_ble_eq_true rfl⟩ ⟨rfl, rfl⟩ rfl hl.1 rfl (Nat.le_of_ble_eq_true rfl) d_NT_remove_4 ⟨Nat.le_of_ble_eq_true rfl, Nat.le_of_ble_eq_true rfl⟩ hP hD hS (fun v H locs hv hP hS => ?_)
  obtain ⟨r, rfl, hr⟩ := hv
  refine W.eq (g2 := F0 m 7 ls [.int r]) rfl ?_
  refine lv_if_ne (tgt := 12) hx hb d_NT_remove_7 (by decide) (fun g1 => ?_) (fun g1 => ?_)
  · have hr : nI 0 ≤ i ∧ i ≤ nI 7 := by
      rcases hr with ⟨-, q⟩ | ⟨q, -⟩
      · exact q
      · exact absurd q g1
    have hi7 : ¬ (i < 0 ∨ 7 < i) := nv_i2 hr
    refine lv_aload_n hx hb d_NT_remove_12 rfl (lv_at hl 0 rfl) ?_
    refine va_get (D := D) (ci := 0) (v := .ref (ad 0)) (C := R_NT) (T := F_NT) (N := 1) hx hb hts in_NT hown hk.1 hP 0 rfl rfl 0 (by decide) (hts _ m_56) (fun _ h9 => h9) rfl d_NT_remove_13 ?_
    refine lv_lload_n hx hb d_NT_remove_16 rfl (lv_at hl 1 rfl) ?_
    refine lv_iload_n hx hb d_NT_remove_17 rfl (lv_at hl 2 rfl) ?_
    refine ct_callV (w1 := [(ax, .inr (0, [.ref (ad 0)]))]) (wc := (wC ad cL cI id ix wo fr fm tb mn vl rw so)) (w2 := []) (As := [.long name, .int i]) (rest := []) hx hb hml hown hts hk (c_CO_get l D ad cL cI id ix wo fr fm tb mn vl rw so name i h.1) 2 m_70 m_2 m_67 m_68 m_69 (by decide +kernel) ⟨Nat.le_of_ble_eq_true rfl, Nat.le_of_ble_eq_true rfl⟩ ⟨rfl, rfl⟩ rfl rfl rfl hl.1 rfl (Nat.le_of_ble_eq_true rfl) d_NT_remove_18 ⟨Nat.le_of_ble_eq_true rfl, Nat.le_of_ble_eq_true rfl⟩ hP hD hS (fun _ => rfl) (fun v u H locs hv hP hD hS => ?_)
    obtain ⟨r2, rfl, hr2⟩ := hv
    refine W.eq (g2 := F0 m 21 ls [.int r2]) rfl ?_
    rcases hr2 with ⟨c0, rfl, q0, q1, q2, q3⟩ | ⟨rfl, hno⟩
    · obtain ⟨hh, he⟩ := rel_has h q1 q2 q3
      have e1 := a_rem_3 hi7 hh
      have hpl := hh.1
      refine lv_istore (lv' := [(4, .int (nI c0)), (0, .ref ax), (1, .long name), (3, .int i)]) hx hb d_NT_remove_21 hl (by decide) rfl (fun ls hl => ?_)
      refine lv_iload hx hb d_NT_remove_23 (lv_at hl 0 rfl) ?_
      refine lv_if_ge (tgt := 31) hx hb d_NT_remove_25 (by decide) (fun g2 => ?_) (fun g2 => ?_)
      · refine lv_aload_n hx hb d_NT_remove_31 rfl (lv_at hl 1 rfl) ?_
        refine va_get (D := D) (ci := 0) (v := .ref (ad 0)) (C := R_NT) (T := F_NT) (N := 1) hx hb hts in_NT hown hk.1 hP 0 rfl rfl 0 (by decide) (hts _ m_56) (fun _ h9 => h9) rfl d_NT_remove_32 ?_
        refine lv_iload hx hb d_NT_remove_35 (lv_at hl 0 rfl) ?_
        refine ct_callV (w1 := [(ax, .inr (0, [.ref (ad 0)]))]) (wc := (wC ad cL cI id ix wo fr fm tb mn vl rw so)) (w2 := []) (As := [.int (nI c0)]) (rest := []) hx hb hml hown hts hk (c_CO_remove l D ad cL cI id ix wo fr fm tb mn vl rw so c0 h.1 q1 (by omega) (by omega)) 1 m_99 m_2 m_96 m_97 m_98 (by decide +kernel) ⟨Nat.le_of_ble_eq_true rfl, Nat.le_of_ble_eq_true rfl⟩ ⟨rfl, rfl⟩ rfl rfl rfl hl.1 rfl (Nat.le_of_ble_eq_true rfl) d_NT_remove_37 ⟨Nat.le_of_ble_eq_true rfl, Nat.le_of_ble_eq_true rfl⟩ hP hD hS (fun _ => rfl) (fun v u H locs hv hP hD hS => ?_)
        obtain ⟨rfl, hv1, hv2⟩ := hv
        refine W.eq (g2 := F0 m 40 ls []) rfl ?_
        have hP : va_P D classes ([(ax, .inr (0, [.ref (ad 0)]))] ++ (wC ad cL cI id ix wo (un fr fm c0) (fm + 1) u (mn - 1) (vl - (wo c0).toInt64) rw 0) ++ []) H := hP
        have hD : va_D _ ([(ax, .inr (0, [.ref (ad 0)]))] ++ (wC ad cL cI id ix wo (un fr fm c0) (fm + 1) u (mn - 1) (vl - (wo c0).toInt64) rw 0) ++ []) := hD
        refine lv_aload_n hx hb d_NT_remove_40 rfl (lv_at hl 1 rfl) ?_
        refine va_get (D := D) (ci := 0) (v := .ref (ad 0)) (C := R_NT) (T := F_NT) (N := 1) hx hb hts in_NT hown hk.1 hP 0 rfl rfl 0 (by decide) (hts _ m_56) (fun _ h9 => h9) rfl d_NT_remove_41 ?_
        refine va_getN (D := D) (ci := 1) (v := .ref (ad 3)) (C := R_CO) (T := F_CO) (N := 10) (host := R_NT) hx hb hts in_CO hown hk.1 hP 1 rfl rfl 2 (by decide) (va_Nw.use rfl hk.2.2.2.1) (fun _ h9 => h9) rfl d_NT_remove_44 ?_
        refine lv_iload hx hb d_NT_remove_47 (lv_at hl 0 rfl) ?_
        refine xi_ald hx hb hk.1 hP 4 1 rfl rfl c0 (wo c0) (rfl) (q0) (by decide) (rfl) d_NT_remove_49 ?_
        exact Rt (some (.int (wo c0))) (id, ix, wo, un fr fm c0, fm + 1, u, mn - 1, vl - (wo c0).toInt64, rw, 0) _ _ _ _ (rt_i d_NT_remove_50) (⟨by rw [e1, he.2.2], by rw [e1]; exact rel_rem h hpl q1 he hv1 hv2⟩) hP hS
      · exact absurd (nI_pos' (by omega)) g2
    · have e1 := a_rem_2 hi7 (rel_hasnt h hno)
      refine lv_istore (lv' := [(4, .int (-1)), (0, .ref ax), (1, .long name), (3, .int i)]) hx hb d_NT_remove_21 hl (by decide) rfl (fun ls hl => ?_)
      refine lv_iload hx hb d_NT_remove_23 (lv_at hl 0 rfl) ?_
      refine lv_if_ge (tgt := 31) hx hb d_NT_remove_25 (by decide) (fun g2 => ?_) (fun g2 => ?_)
      · exact absurd g2 (by decide)
      · refine lv_bipush (v := (-2)) hx hb d_NT_remove_28 (by decide +kernel) ?_
        exact Rt (some (.int (-2))) (id, ix, wo, fr, fm, tb, mn, vl, rw, so) _ _ _ _ (rt_i d_NT_remove_30) (⟨by rw [e1], by rw [e1]; exact h⟩) hP hS
  · have hr : ¬ (nI 0 ≤ i ∧ i ≤ nI 7) := by
      rcases hr with ⟨q, -⟩ | ⟨-, q⟩
      · rw [g1] at q; exact absurd q (by decide)
      · exact q
    have e1 := a_rem_1 (a := a) (name := name) (nv_o2 (A := i < 0 ∨ 7 < i) hr (fun q => Or.inl q) (fun q => Or.inr q))
    refine lv_iconst (v := (-1)) hx hb d_NT_remove_10 (by decide +kernel) ?_
    exact Rt (some (.int (-1))) (id, ix, wo, fr, fm, tb, mn, vl, rw, so) _ _ _ _ (rt_i d_NT_remove_11) (⟨by rw [e1], by rw [e1]; exact h⟩) hP hS

abbrev rm_NT_get : Room := { frames := 3, cells := 0, slots := 0, locals := 71 }
set_option maxHeartbeats 4000000 in
set_option maxRecDepth 100000 in
/-- get -/
theorem c_NT_get (l : Launch) (D : va_G) (ax : Nat) (ad : Nat → Nat) (cL cI : ClassId) (u0 : CS) (a : AS) (h : relS u0 a) (name : Int64) (i : Int32) : ct l y_NT_get b_NT_get 5 (some .int) rm_NT_get [.ref ax, .long name, .int i] D cL cI (wX ax ad cL cI u0) (fun v u => v = some (.int (a_get a name i)) ∧ relS u a) (wX ax ad cL cI) := by
  obtain ⟨id, ix, wo, fr, fm, tb, mn, vl, rw, so⟩ := u0
  have h : rel id ix wo fr fm tb mn vl rw so a := h
  have hn9 : a.1 ≤ 900 := h.2.2.2.1.1
  have hmn : mn = a.1 := h.2.1.1
  have hfm : fm + a.1 = 900 := h.2.1.2
  refine ct_ofW (by decide) (Nat.le_of_ble_eq_true rfl) ?_
  intro p e s m below meth c Q ls hx hb hml hown hts hk hP hD hS hl Rt
  have hown : s.vm.findClass "NameTable" = some m.cls := hown
  have hl : lv_has ls 5 [(0, .ref ax), (1, .long name), (3, .int i)] := hl
  have hP : va_P D classes ([(ax, .inr (0, [.ref (ad 0)]))] ++ (wC ad cL cI id ix wo fr fm tb mn vl rw so) ++ []) s.heap := hP
  have hD : va_D _ ([(ax, .inr (0, [.ref (ad 0)]))] ++ (wC ad cL cI id ix wo fr fm tb mn vl rw so) ++ []) := hD
  refine lv_iload_n hx hb d_NT_get_0 rfl (lv_at hl 2 rfl) ?_
  refine lv_iconst (v := nI 0) hx hb d_NT_get_1 (by decide +kernel) ?_
  refine lv_bipush (v := nI 7) hx hb d_NT_get_2 (by decide +kernel) ?_
  refine ct_callS (As := [.int i, .int (nI 0), .int (nI 7)]) (rest := []) hx hb hml hown hts hk (c_NT_in l D cL cI i (nI 0) (nI 7)) 3 m_66 m_1 m_64 m_65 (by decide +kernel) ⟨Nat.le_of_ble_eq_true rfl, Nat.le_of_ble_eq_true rfl⟩ ⟨rfl, rfl⟩ rfl hl.1 rfl (Nat.le_of_ble_eq_true rfl) d_NT_get_4 ⟨Nat.le_of_ble_eq_true rfl, Nat.le_of_ble_eq_true rfl⟩ hP hD hS (fun v H locs hv hP hS => ?_)
  obtain ⟨r, rfl, hr⟩ := hv
  refine W.eq (g2 := F0 m 7 ls [.int r]) rfl ?_
  refine lv_if_ne (tgt := 12) hx hb d_NT_get_7 (by decide) (fun g1 => ?_) (fun g1 => ?_)
  · have hr : nI 0 ≤ i ∧ i ≤ nI 7 := by
      rcases hr with ⟨-, q⟩ | ⟨q, -⟩
      · exact q
      · exact absurd q g1
    have hi7 : ¬ (i < 0 ∨ 7 < i) := nv_i2 hr
    refine lv_aload_n hx hb d_NT_get_12 rfl (lv_at hl 0 rfl) ?_
    refine va_get (D := D) (ci := 0) (v := .ref (ad 0)) (C := R_NT) (T := F_NT) (N := 1) hx hb hts in_NT hown hk.1 hP 0 rfl rfl 0 (by decide) (hts _ m_56) (fun _ h9 => h9) rfl d_NT_get_13 ?_
    refine lv_lload_n hx hb d_NT_get_16 rfl (lv_at hl 1 rfl) ?_
    refine lv_iload_n hx hb d_NT_get_17 rfl (lv_at hl 2 rfl) ?_
    refine ct_callV (w1 := [(ax, .inr (0, [.ref (ad 0)]))]) (wc := (wC ad cL cI id ix wo fr fm tb mn vl rw so)) (w2 := []) (As := [.long name, .int i]) (rest := []) hx hb hml hown hts hk (c_CO_get l D ad cL cI id ix wo fr fm tb mn vl rw so name i h.1) 2 m_70 m_2 m_67 m_68 m_69 (by decide +kernel) ⟨Nat.le_of_ble_eq_true rfl, Nat.le_of_ble_eq_true rfl⟩ ⟨rfl, rfl⟩ rfl rfl rfl hl.1 rfl (Nat.le_of_ble_eq_true rfl) d_NT_get_18 ⟨Nat.le_of_ble_eq_true rfl, Nat.le_of_ble_eq_true rfl⟩ hP hD hS (fun _ => rfl) (fun v u H locs hv hP hD hS => ?_)
    obtain ⟨r2, rfl, hr2⟩ := hv
    refine W.eq (g2 := F0 m 21 ls [.int r2]) rfl ?_
    rcases hr2 with ⟨c0, rfl, q0, q1, q2, q3⟩ | ⟨rfl, hno⟩
    · obtain ⟨hh, he⟩ := rel_has h q1 q2 q3
      have e1 := a_get_3 hi7 hh
      have hpl := hh.1
      refine lv_istore (lv' := [(4, .int (nI c0)), (0, .ref ax), (1, .long name), (3, .int i)]) hx hb d_NT_get_21 hl (by decide) rfl (fun ls hl => ?_)
      refine lv_iload hx hb d_NT_get_23 (lv_at hl 0 rfl) ?_
      refine lv_if_ge (tgt := 33) hx hb d_NT_get_25 (by decide) (fun g2 => ?_) (fun g2 => ?_)
      · refine lv_aload_n hx hb d_NT_get_33 rfl (lv_at hl 1 rfl) ?_
        refine va_get (D := D) (ci := 0) (v := .ref (ad 0)) (C := R_NT) (T := F_NT) (N := 1) hx hb hts in_NT hown hk.1 hP 0 rfl rfl 0 (by decide) (hts _ m_56) (fun _ h9 => h9) rfl d_NT_get_34 ?_
        refine va_getN (D := D) (ci := 1) (v := .ref (ad 3)) (C := R_CO) (T := F_CO) (N := 10) (host := R_NT) hx hb hts in_CO hown hk.1 hP 1 rfl rfl 2 (by decide) (va_Nw.use rfl hk.2.2.2.1) (fun _ h9 => h9) rfl d_NT_get_37 ?_
        refine lv_iload hx hb d_NT_get_40 (lv_at hl 0 rfl) ?_
        refine xi_ald hx hb hk.1 hP 4 1 rfl rfl c0 (wo c0) (rfl) (q0) (by decide) (rfl) d_NT_get_42 ?_
        exact Rt (some (.int (wo c0))) (id, ix, wo, fr, fm, tb, mn, vl, rw, so) _ _ _ _ (rt_i d_NT_get_43) (⟨by rw [e1, he.2.2], h⟩) hP hS
      · exact absurd (nI_pos' (by omega)) g2
    · have e1 := a_get_2 hi7 (rel_hasnt h hno)
      refine lv_istore (lv' := [(4, .int (-1)), (0, .ref ax), (1, .long name), (3, .int i)]) hx hb d_NT_get_21 hl (by decide) rfl (fun ls hl => ?_)
      refine lv_iload hx hb d_NT_get_23 (lv_at hl 0 rfl) ?_
      refine lv_if_ge (tgt := 33) hx hb d_NT_get_25 (by decide) (fun g2 => ?_) (fun g2 => ?_)
      · exact absurd g2 (by decide)
      · refine lv_bipush (v := (-2)) hx hb d_NT_get_28 (by decide +kernel) ?_
        refine lv_goto (tgt := 43) hx hb d_NT_get_30 (by decide) ?_
        exact Rt (some (.int (-2))) (id, ix, wo, fr, fm, tb, mn, vl, rw, so) _ _ _ _ (rt_i d_NT_get_43) (⟨by rw [e1], h⟩) hP hS
  · have hr : ¬ (nI 0 ≤ i ∧ i ≤ nI 7) := by
      rcases hr with ⟨q, -⟩ | ⟨-, q⟩
      · rw [g1] at q; exact absurd q (by decide)
      · exact q
    have e1 := a_get_1 (a := a) (name := name) (nv_o2 (A := i < 0 ∨ 7 < i) hr (fun q => Or.inl q) (fun q => Or.inr q))
    refine lv_iconst (v := (-1)) hx hb d_NT_get_10 (by decide +kernel) ?_
    exact Rt (some (.int (-1))) (id, ix, wo, fr, fm, tb, mn, vl, rw, so) _ _ _ _ (rt_i d_NT_get_11) (⟨by rw [e1], h⟩) hP hS

abbrev rm_NT_take : Room := { frames := 4, cells := 0, slots := 0, locals := 91 }
set_option maxHeartbeats 4000000 in
set_option maxRecDepth 100000 in
/-- take -/
theorem c_NT_take (l : Launch) (D : va_G) (ax : Nat) (ad : Nat → Nat) (cL cI : ClassId) (u0 : CS) (a : AS) (h : relS u0 a) (x : Int32) : ct l y_NT_take b_NT_take 3 (some .int) rm_NT_take [.ref ax, .int x] D cL cI (wX ax ad cL cI u0) (fun v u => v = some (.int (a_take a x).1) ∧ relS u (a_take a x).2) (wX ax ad cL cI) := by
  obtain ⟨id, ix, wo, fr, fm, tb, mn, vl, rw, so⟩ := u0
  have h : rel id ix wo fr fm tb mn vl rw so a := h
  have hn9 : a.1 ≤ 900 := h.2.2.2.1.1
  have hmn : mn = a.1 := h.2.1.1
  have hfm : fm + a.1 = 900 := h.2.1.2
  refine ct_ofW (by decide) (Nat.le_of_ble_eq_true rfl) ?_
  intro p e s m below meth c Q ls hx hb hml hown hts hk hP hD hS hl Rt
  have hown : s.vm.findClass "NameTable" = some m.cls := hown
  have hl : lv_has ls 3 [(0, .ref ax), (1, .int x)] := hl
  have hP : va_P D classes ([(ax, .inr (0, [.ref (ad 0)]))] ++ (wC ad cL cI id ix wo fr fm tb mn vl rw so) ++ []) s.heap := hP
  have hD : va_D _ ([(ax, .inr (0, [.ref (ad 0)]))] ++ (wC ad cL cI id ix wo fr fm tb mn vl rw so) ++ []) := hD
  refine lv_aload_n hx hb d_NT_take_0 rfl (lv_at hl 0 rfl) ?_
  refine va_get (D := D) (ci := 0) (v := .ref (ad 0)) (C := R_NT) (T := F_NT) (N := 1) hx hb hts in_NT hown hk.1 hP 0 rfl rfl 0 (by decide) (hts _ m_56) (fun _ h9 => h9) rfl d_NT_take_1 ?_
  refine lv_iload_n hx hb d_NT_take_4 rfl (lv_at hl 1 rfl) ?_
  refine ct_callV (w1 := [(ax, .inr (0, [.ref (ad 0)]))]) (wc := (wC ad cL cI id ix wo fr fm tb mn vl rw so)) (w2 := []) (As := [.int x]) (rest := []) hx hb hml hown hts hk (c_CO_nth l D ad cL cI id ix wo fr fm tb mn vl rw so a h x) 1 m_107 m_2 m_104 m_105 m_106 (by decide +kernel) ⟨Nat.le_of_ble_eq_true rfl, Nat.le_of_ble_eq_true rfl⟩ ⟨rfl, rfl⟩ rfl rfl rfl hl.1 rfl (Nat.le_of_ble_eq_true rfl) d_NT_take_5 ⟨Nat.le_of_ble_eq_true rfl, Nat.le_of_ble_eq_true rfl⟩ hP hD hS (fun _ => rfl) (fun v u H locs hv hP hD hS => ?_)
  obtain ⟨rw2, so2⟩ := u
  obtain ⟨hv0, hv⟩ := hv
  have h : rel id ix wo fr fm tb mn vl rw2 so2 a := hv0
  rcases hv with ⟨ho, rfl⟩ | ⟨j, c0, hj, rfl, rfl, q1, he⟩
  · refine W.eq (g2 := F0 m 8 ls [.int (-1)]) rfl ?_
    have hP : va_P D classes ([(ax, .inr (0, [.ref (ad 0)]))] ++ (wC ad cL cI id ix wo fr fm tb mn vl rw2 so2) ++ []) H := hP
    have hD : va_D _ ([(ax, .inr (0, [.ref (ad 0)]))] ++ (wC ad cL cI id ix wo fr fm tb mn vl rw2 so2) ++ []) := hD
    have e1 := a_take_1 ho
    refine lv_istore_n (lv' := [(2, .int (-1)), (0, .ref ax), (1, .int x)]) hx hb d_NT_take_8 rfl hl (by decide) rfl (fun ls hl => ?_)
    refine lv_iload_n hx hb d_NT_take_9 rfl (lv_at hl 0 rfl) ?_
    refine lv_if_ge (tgt := 16) hx hb d_NT_take_10 (by decide) (fun g1 => ?_) (fun g1 => ?_)
    · exact absurd g1 (by decide)
    · refine lv_bipush (v := (-2)) hx hb d_NT_take_13 (by decide +kernel) ?_
      exact Rt (some (.int (-2))) (id, ix, wo, fr, fm, tb, mn, vl, rw2, so2) _ _ _ _ (rt_i d_NT_take_15) (⟨by rw [e1], by rw [e1]; exact h⟩) hP hS
  · refine W.eq (g2 := F0 m 8 ls [.int (nI c0)]) rfl ?_
    have hP : va_P D classes ([(ax, .inr (0, [.ref (ad 0)]))] ++ (wC ad cL cI id ix wo fr fm tb mn vl rw2 so2) ++ []) H := hP
    have hD : va_D _ ([(ax, .inr (0, [.ref (ad 0)]))] ++ (wC ad cL cI id ix wo fr fm tb mn vl rw2 so2) ++ []) := hD
    have e1 := a_take_2 hn9 hj
    have q0 := tv_lt h.1 q1
    refine lv_istore_n (lv' := [(2, .int (nI c0)), (0, .ref ax), (1, .int (nI j))]) hx hb d_NT_take_8 rfl hl (by decide) rfl (fun ls hl => ?_)
    refine lv_iload_n hx hb d_NT_take_9 rfl (lv_at hl 0 rfl) ?_
    refine lv_if_ge (tgt := 16) hx hb d_NT_take_10 (by decide) (fun g1 => ?_) (fun g1 => ?_)
    · refine lv_aload_n hx hb d_NT_take_16 rfl (lv_at hl 1 rfl) ?_
      refine va_get (D := D) (ci := 0) (v := .ref (ad 0)) (C := R_NT) (T := F_NT) (N := 1) hx hb hts in_NT hown hk.1 hP 0 rfl rfl 0 (by decide) (hts _ m_56) (fun _ h9 => h9) rfl d_NT_take_17 ?_
      refine lv_iload_n hx hb d_NT_take_20 rfl (lv_at hl 0 rfl) ?_
      refine ct_callV (w1 := [(ax, .inr (0, [.ref (ad 0)]))]) (wc := (wC ad cL cI id ix wo fr fm tb mn vl rw2 so2)) (w2 := []) (As := [.int (nI c0)]) (rest := []) hx hb hml hown hts hk (c_CO_remove l D ad cL cI id ix wo fr fm tb mn vl rw2 so2 c0 h.1 q1 (by omega) (by omega)) 1 m_99 m_2 m_96 m_97 m_98 (by decide +kernel) ⟨Nat.le_of_ble_eq_true rfl, Nat.le_of_ble_eq_true rfl⟩ ⟨rfl, rfl⟩ rfl rfl rfl hl.1 rfl (Nat.le_of_ble_eq_true rfl) d_NT_take_21 ⟨Nat.le_of_ble_eq_true rfl, Nat.le_of_ble_eq_true rfl⟩ hP hD hS (fun _ => rfl) (fun v u H locs hv hP hD hS => ?_)
      obtain ⟨rfl, hv1, hv2⟩ := hv
      refine W.eq (g2 := F0 m 24 ls []) rfl ?_
      have hP : va_P D classes ([(ax, .inr (0, [.ref (ad 0)]))] ++ (wC ad cL cI id ix wo (un fr fm c0) (fm + 1) u (mn - 1) (vl - (wo c0).toInt64) rw2 0) ++ []) H := hP
      have hD : va_D _ ([(ax, .inr (0, [.ref (ad 0)]))] ++ (wC ad cL cI id ix wo (un fr fm c0) (fm + 1) u (mn - 1) (vl - (wo c0).toInt64) rw2 0) ++ []) := hD
      refine lv_aload_n hx hb d_NT_take_24 rfl (lv_at hl 1 rfl) ?_
      refine va_get (D := D) (ci := 0) (v := .ref (ad 0)) (C := R_NT) (T := F_NT) (N := 1) hx hb hts in_NT hown hk.1 hP 0 rfl rfl 0 (by decide) (hts _ m_56) (fun _ h9 => h9) rfl d_NT_take_25 ?_
      refine va_getN (D := D) (ci := 1) (v := .ref (ad 3)) (C := R_CO) (T := F_CO) (N := 10) (host := R_NT) hx hb hts in_CO hown hk.1 hP 1 rfl rfl 2 (by decide) (va_Nw.use rfl hk.2.2.2.1) (fun _ h9 => h9) rfl d_NT_take_28 ?_
      refine lv_iload_n hx hb d_NT_take_31 rfl (lv_at hl 0 rfl) ?_
      refine xi_ald hx hb hk.1 hP 4 1 rfl rfl c0 (wo c0) (rfl) (q0) (by decide) (rfl) d_NT_take_32 ?_
      exact Rt (some (.int (wo c0))) (id, ix, wo, un fr fm c0, fm + 1, u, mn - 1, vl - (wo c0).toInt64, rw2, 0) _ _ _ _ (rt_i d_NT_take_33) (⟨by rw [e1, he.2.2], by rw [e1]; exact rel_rem h hj q1 he hv1 hv2⟩) hP hS
    · exact absurd (nI_pos' (by omega)) g1

abbrev rm_NT_name : Room := { frames := 4, cells := 0, slots := 0, locals := 91 }
set_option maxHeartbeats 4000000 in
set_option maxRecDepth 100000 in
/-- name -/
theorem c_NT_name (l : Launch) (D : va_G) (ax : Nat) (ad : Nat → Nat) (cL cI : ClassId) (u0 : CS) (a : AS) (h : relS u0 a) (x : Int32) : ct l y_NT_name b_NT_name 3 (some .long) rm_NT_name [.ref ax, .int x] D cL cI (wX ax ad cL cI u0) (fun v u => v = some (.long (a_name a x)) ∧ relS u a) (wX ax ad cL cI) := by
  obtain ⟨id, ix, wo, fr, fm, tb, mn, vl, rw, so⟩ := u0
  have h : rel id ix wo fr fm tb mn vl rw so a := h
  have hn9 : a.1 ≤ 900 := h.2.2.2.1.1
  have hmn : mn = a.1 := h.2.1.1
  have hfm : fm + a.1 = 900 := h.2.1.2
  refine ct_ofW (by decide) (Nat.le_of_ble_eq_true rfl) ?_
  intro p e s m below meth c Q ls hx hb hml hown hts hk hP hD hS hl Rt
  have hown : s.vm.findClass "NameTable" = some m.cls := hown
  have hl : lv_has ls 3 [(0, .ref ax), (1, .int x)] := hl
  have hP : va_P D classes ([(ax, .inr (0, [.ref (ad 0)]))] ++ (wC ad cL cI id ix wo fr fm tb mn vl rw so) ++ []) s.heap := hP
  have hD : va_D _ ([(ax, .inr (0, [.ref (ad 0)]))] ++ (wC ad cL cI id ix wo fr fm tb mn vl rw so) ++ []) := hD
  refine lv_aload_n hx hb d_NT_name_0 rfl (lv_at hl 0 rfl) ?_
  refine va_get (D := D) (ci := 0) (v := .ref (ad 0)) (C := R_NT) (T := F_NT) (N := 1) hx hb hts in_NT hown hk.1 hP 0 rfl rfl 0 (by decide) (hts _ m_56) (fun _ h9 => h9) rfl d_NT_name_1 ?_
  refine lv_iload_n hx hb d_NT_name_4 rfl (lv_at hl 1 rfl) ?_
  refine ct_callV (w1 := [(ax, .inr (0, [.ref (ad 0)]))]) (wc := (wC ad cL cI id ix wo fr fm tb mn vl rw so)) (w2 := []) (As := [.int x]) (rest := []) hx hb hml hown hts hk (c_CO_nth l D ad cL cI id ix wo fr fm tb mn vl rw so a h x) 1 m_107 m_2 m_104 m_105 m_106 (by decide +kernel) ⟨Nat.le_of_ble_eq_true rfl, Nat.le_of_ble_eq_true rfl⟩ ⟨rfl, rfl⟩ rfl rfl rfl hl.1 rfl (Nat.le_of_ble_eq_true rfl) d_NT_name_5 ⟨Nat.le_of_ble_eq_true rfl, Nat.le_of_ble_eq_true rfl⟩ hP hD hS (fun _ => rfl) (fun v u H locs hv hP hD hS => ?_)
  obtain ⟨rw2, so2⟩ := u
  obtain ⟨hv0, hv⟩ := hv
  have h : rel id ix wo fr fm tb mn vl rw2 so2 a := hv0
  rcases hv with ⟨ho, rfl⟩ | ⟨j, c0, hj, rfl, rfl, q1, he⟩
  · refine W.eq (g2 := F0 m 8 ls [.int (-1)]) rfl ?_
    have hP : va_P D classes ([(ax, .inr (0, [.ref (ad 0)]))] ++ (wC ad cL cI id ix wo fr fm tb mn vl rw2 so2) ++ []) H := hP
    have hD : va_D _ ([(ax, .inr (0, [.ref (ad 0)]))] ++ (wC ad cL cI id ix wo fr fm tb mn vl rw2 so2) ++ []) := hD
    have e1 := a_name_1 ho
    refine lv_istore_n (lv' := [(2, .int (-1)), (0, .ref ax), (1, .int x)]) hx hb d_NT_name_8 rfl hl (by decide) rfl (fun ls hl => ?_)
    refine lv_iload_n hx hb d_NT_name_9 rfl (lv_at hl 0 rfl) ?_
    refine lv_if_ge (tgt := 17) hx hb d_NT_name_10 (by decide) (fun g1 => ?_) (fun g1 => ?_)
    · exact absurd g1 (by decide)
    · refine lv_lconst (v := 0) hx hb d_NT_name_13 (by decide +kernel) ?_
      refine lv_goto (tgt := 26) hx hb d_NT_name_14 (by decide) ?_
      exact Rt (some (.long 0)) (id, ix, wo, fr, fm, tb, mn, vl, rw2, so2) _ _ _ _ (rt_l d_NT_name_26) (⟨by rw [e1], h⟩) hP hS
  · refine W.eq (g2 := F0 m 8 ls [.int (nI c0)]) rfl ?_
    have hP : va_P D classes ([(ax, .inr (0, [.ref (ad 0)]))] ++ (wC ad cL cI id ix wo fr fm tb mn vl rw2 so2) ++ []) H := hP
    have hD : va_D _ ([(ax, .inr (0, [.ref (ad 0)]))] ++ (wC ad cL cI id ix wo fr fm tb mn vl rw2 so2) ++ []) := hD
    have e1 := a_name_2 hn9 hj
    have q0 := tv_lt h.1 q1
    refine lv_istore_n (lv' := [(2, .int (nI c0)), (0, .ref ax), (1, .int (nI j))]) hx hb d_NT_name_8 rfl hl (by decide) rfl (fun ls hl => ?_)
    refine lv_iload_n hx hb d_NT_name_9 rfl (lv_at hl 0 rfl) ?_
    refine lv_if_ge (tgt := 17) hx hb d_NT_name_10 (by decide) (fun g1 => ?_) (fun g1 => ?_)
    · refine lv_aload_n hx hb d_NT_name_17 rfl (lv_at hl 1 rfl) ?_
      refine va_get (D := D) (ci := 0) (v := .ref (ad 0)) (C := R_NT) (T := F_NT) (N := 1) hx hb hts in_NT hown hk.1 hP 0 rfl rfl 0 (by decide) (hts _ m_56) (fun _ h9 => h9) rfl d_NT_name_18 ?_
      refine va_getN (D := D) (ci := 1) (v := .ref (ad 1)) (C := R_CO) (T := F_CO) (N := 10) (host := R_NT) hx hb hts in_CO hown hk.1 hP 1 rfl rfl 0 (by decide) (va_Nw.use rfl hk.2.1) (fun _ h9 => h9) rfl d_NT_name_21 ?_
      refine lv_iload_n hx hb d_NT_name_24 rfl (lv_at hl 0 rfl) ?_
      refine xl_ald hx hb hk.1 hP 2 0 rfl rfl c0 (id c0) (rfl) (q0) (by decide) (rfl) d_NT_name_25 ?_
      exact Rt (some (.long (id c0))) (id, ix, wo, fr, fm, tb, mn, vl, rw2, so2) _ _ _ _ (rt_l d_NT_name_26) (⟨by rw [e1, he.1], h⟩) hP hS
    · exact absurd (nI_pos' (by omega)) g1

abbrev rm_NT_index : Room := { frames := 4, cells := 0, slots := 0, locals := 91 }
set_option maxHeartbeats 4000000 in
set_option maxRecDepth 100000 in
/-- index -/
theorem c_NT_index (l : Launch) (D : va_G) (ax : Nat) (ad : Nat → Nat) (cL cI : ClassId) (u0 : CS) (a : AS) (h : relS u0 a) (x : Int32) : ct l y_NT_index b_NT_index 3 (some .int) rm_NT_index [.ref ax, .int x] D cL cI (wX ax ad cL cI u0) (fun v u => v = some (.int (a_index a x)) ∧ relS u a) (wX ax ad cL cI) := by
  obtain ⟨id, ix, wo, fr, fm, tb, mn, vl, rw, so⟩ := u0
  have h : rel id ix wo fr fm tb mn vl rw so a := h
  have hn9 : a.1 ≤ 900 := h.2.2.2.1.1
  have hmn : mn = a.1 := h.2.1.1
  have hfm : fm + a.1 = 900 := h.2.1.2
  refine ct_ofW (by decide) (Nat.le_of_ble_eq_true rfl) ?_
  intro p e s m below meth c Q ls hx hb hml hown hts hk hP hD hS hl Rt
  have hown : s.vm.findClass "NameTable" = some m.cls := hown
  have hl : lv_has ls 3 [(0, .ref ax), (1, .int x)] := hl
  have hP : va_P D classes ([(ax, .inr (0, [.ref (ad 0)]))] ++ (wC ad cL cI id ix wo fr fm tb mn vl rw so) ++ []) s.heap := hP
  have hD : va_D _ ([(ax, .inr (0, [.ref (ad 0)]))] ++ (wC ad cL cI id ix wo fr fm tb mn vl rw so) ++ []) := hD
  refine lv_aload_n hx hb d_NT_index_0 rfl (lv_at hl 0 rfl) ?_
  refine va_get (D := D) (ci := 0) (v := .ref (ad 0)) (C := R_NT) (T := F_NT) (N := 1) hx hb hts in_NT hown hk.1 hP 0 rfl rfl 0 (by decide) (hts _ m_56) (fun _ h9 => h9) rfl d_NT_index_1 ?_
  refine lv_iload_n hx hb d_NT_index_4 rfl (lv_at hl 1 rfl) ?_
  refine ct_callV (w1 := [(ax, .inr (0, [.ref (ad 0)]))]) (wc := (wC ad cL cI id ix wo fr fm tb mn vl rw so)) (w2 := []) (As := [.int x]) (rest := []) hx hb hml hown hts hk (c_CO_nth l D ad cL cI id ix wo fr fm tb mn vl rw so a h x) 1 m_107 m_2 m_104 m_105 m_106 (by decide +kernel) ⟨Nat.le_of_ble_eq_true rfl, Nat.le_of_ble_eq_true rfl⟩ ⟨rfl, rfl⟩ rfl rfl rfl hl.1 rfl (Nat.le_of_ble_eq_true rfl) d_NT_index_5 ⟨Nat.le_of_ble_eq_true rfl, Nat.le_of_ble_eq_true rfl⟩ hP hD hS (fun _ => rfl) (fun v u H locs hv hP hD hS => ?_)
  obtain ⟨rw2, so2⟩ := u
  obtain ⟨hv0, hv⟩ := hv
  have h : rel id ix wo fr fm tb mn vl rw2 so2 a := hv0
  rcases hv with ⟨ho, rfl⟩ | ⟨j, c0, hj, rfl, rfl, q1, he⟩
  · refine W.eq (g2 := F0 m 8 ls [.int (-1)]) rfl ?_
    have hP : va_P D classes ([(ax, .inr (0, [.ref (ad 0)]))] ++ (wC ad cL cI id ix wo fr fm tb mn vl rw2 so2) ++ []) H := hP
    have hD : va_D _ ([(ax, .inr (0, [.ref (ad 0)]))] ++ (wC ad cL cI id ix wo fr fm tb mn vl rw2 so2) ++ []) := hD
    have e1 := a_index_1 ho
    refine lv_istore_n (lv' := [(2, .int (-1)), (0, .ref ax), (1, .int x)]) hx hb d_NT_index_8 rfl hl (by decide) rfl (fun ls hl => ?_)
    refine lv_iload_n hx hb d_NT_index_9 rfl (lv_at hl 0 rfl) ?_
    refine lv_if_ge (tgt := 18) hx hb d_NT_index_10 (by decide) (fun g1 => ?_) (fun g1 => ?_)
    · exact absurd g1 (by decide)
    · refine lv_bipush (v := (-2)) hx hb d_NT_index_13 (by decide +kernel) ?_
      refine lv_goto (tgt := 27) hx hb d_NT_index_15 (by decide) ?_
      exact Rt (some (.int (-2))) (id, ix, wo, fr, fm, tb, mn, vl, rw2, so2) _ _ _ _ (rt_i d_NT_index_27) (⟨by rw [e1], h⟩) hP hS
  · refine W.eq (g2 := F0 m 8 ls [.int (nI c0)]) rfl ?_
    have hP : va_P D classes ([(ax, .inr (0, [.ref (ad 0)]))] ++ (wC ad cL cI id ix wo fr fm tb mn vl rw2 so2) ++ []) H := hP
    have hD : va_D _ ([(ax, .inr (0, [.ref (ad 0)]))] ++ (wC ad cL cI id ix wo fr fm tb mn vl rw2 so2) ++ []) := hD
    have e1 := a_index_2 hn9 hj
    have q0 := tv_lt h.1 q1
    refine lv_istore_n (lv' := [(2, .int (nI c0)), (0, .ref ax), (1, .int (nI j))]) hx hb d_NT_index_8 rfl hl (by decide) rfl (fun ls hl => ?_)
    refine lv_iload_n hx hb d_NT_index_9 rfl (lv_at hl 0 rfl) ?_
    refine lv_if_ge (tgt := 18) hx hb d_NT_index_10 (by decide) (fun g1 => ?_) (fun g1 => ?_)
    · refine lv_aload_n hx hb d_NT_index_18 rfl (lv_at hl 1 rfl) ?_
      refine va_get (D := D) (ci := 0) (v := .ref (ad 0)) (C := R_NT) (T := F_NT) (N := 1) hx hb hts in_NT hown hk.1 hP 0 rfl rfl 0 (by decide) (hts _ m_56) (fun _ h9 => h9) rfl d_NT_index_19 ?_
      refine va_getN (D := D) (ci := 1) (v := .ref (ad 2)) (C := R_CO) (T := F_CO) (N := 10) (host := R_NT) hx hb hts in_CO hown hk.1 hP 1 rfl rfl 1 (by decide) (va_Nw.use rfl hk.2.2.1) (fun _ h9 => h9) rfl d_NT_index_22 ?_
      refine lv_iload_n hx hb d_NT_index_25 rfl (lv_at hl 0 rfl) ?_
      refine xi_ald hx hb hk.1 hP 3 1 rfl rfl c0 (ix c0) (rfl) (q0) (by decide) (rfl) d_NT_index_26 ?_
      exact Rt (some (.int (ix c0))) (id, ix, wo, fr, fm, tb, mn, vl, rw2, so2) _ _ _ _ (rt_i d_NT_index_27) (⟨by rw [e1, he.2.1], h⟩) hP hS
    · exact absurd (nI_pos' (by omega)) g1

abbrev rm_NT_many : Room := { frames := 0, cells := 0, slots := 0, locals := 0 }
set_option maxHeartbeats 4000000 in
set_option maxRecDepth 100000 in
/-- many -/
theorem c_NT_many (l : Launch) (D : va_G) (ax : Nat) (ad : Nat → Nat) (cL cI : ClassId) (u0 : CS) (a : AS) (h : relS u0 a)  : ct l y_NT_many b_NT_many 1 (some .int) rm_NT_many [.ref ax] D cL cI (wX ax ad cL cI u0) (fun v u => v = some (.int (nI a.1)) ∧ relS u a) (wX ax ad cL cI) := by
  obtain ⟨id, ix, wo, fr, fm, tb, mn, vl, rw, so⟩ := u0
  have h : rel id ix wo fr fm tb mn vl rw so a := h
  have hn9 : a.1 ≤ 900 := h.2.2.2.1.1
  have hmn : mn = a.1 := h.2.1.1
  have hfm : fm + a.1 = 900 := h.2.1.2
  refine ct_ofW (by decide) (Nat.le_of_ble_eq_true rfl) ?_
  intro p e s m below meth c Q ls hx hb hml hown hts hk hP hD hS hl Rt
  have hown : s.vm.findClass "NameTable" = some m.cls := hown
  have hl : lv_has ls 1 [(0, .ref ax)] := hl
  have hP : va_P D classes ([(ax, .inr (0, [.ref (ad 0)]))] ++ (wC ad cL cI id ix wo fr fm tb mn vl rw so) ++ []) s.heap := hP
  have hD : va_D _ ([(ax, .inr (0, [.ref (ad 0)]))] ++ (wC ad cL cI id ix wo fr fm tb mn vl rw so) ++ []) := hD
  refine lv_aload_n hx hb d_NT_many_0 rfl (lv_at hl 0 rfl) ?_
  refine va_get (D := D) (ci := 0) (v := .ref (ad 0)) (C := R_NT) (T := F_NT) (N := 1) hx hb hts in_NT hown hk.1 hP 0 rfl rfl 0 (by decide) (hts _ m_56) (fun _ h9 => h9) rfl d_NT_many_1 ?_
  refine va_get (D := D) (ci := 1) (v := .int (nI mn)) (C := R_CO) (T := F_CO) (N := 10) hx hb hts in_CO hown hk.1 hP 1 rfl rfl 6 (by decide) (hts _ m_27) (fun _ h9 => h9) rfl d_NT_many_4 ?_
  exact Rt (some (.int (nI mn))) (id, ix, wo, fr, fm, tb, mn, vl, rw, so) _ _ _ _ (rt_i d_NT_many_7) (⟨by rw [hmn], h⟩) hP hS

abbrev rm_NT_value : Room := { frames := 0, cells := 0, slots := 0, locals := 0 }
set_option maxHeartbeats 4000000 in
set_option maxRecDepth 100000 in
/-- value -/
theorem c_NT_value (l : Launch) (D : va_G) (ax : Nat) (ad : Nat → Nat) (cL cI : ClassId) (u0 : CS) (a : AS) (h : relS u0 a)  : ct l y_NT_value b_NT_value 1 (some .long) rm_NT_value [.ref ax] D cL cI (wX ax ad cL cI u0) (fun v u => v = some (.long (a_sum a.2.2.2 a.1)) ∧ relS u a) (wX ax ad cL cI) := by
  obtain ⟨id, ix, wo, fr, fm, tb, mn, vl, rw, so⟩ := u0
  have h : rel id ix wo fr fm tb mn vl rw so a := h
  have hn9 : a.1 ≤ 900 := h.2.2.2.1.1
  have hmn : mn = a.1 := h.2.1.1
  have hfm : fm + a.1 = 900 := h.2.1.2
  refine ct_ofW (by decide) (Nat.le_of_ble_eq_true rfl) ?_
  intro p e s m below meth c Q ls hx hb hml hown hts hk hP hD hS hl Rt
  have hown : s.vm.findClass "NameTable" = some m.cls := hown
  have hl : lv_has ls 1 [(0, .ref ax)] := hl
  have hP : va_P D classes ([(ax, .inr (0, [.ref (ad 0)]))] ++ (wC ad cL cI id ix wo fr fm tb mn vl rw so) ++ []) s.heap := hP
  have hD : va_D _ ([(ax, .inr (0, [.ref (ad 0)]))] ++ (wC ad cL cI id ix wo fr fm tb mn vl rw so) ++ []) := hD
  refine lv_aload_n hx hb d_NT_value_0 rfl (lv_at hl 0 rfl) ?_
  refine va_get (D := D) (ci := 0) (v := .ref (ad 0)) (C := R_NT) (T := F_NT) (N := 1) hx hb hts in_NT hown hk.1 hP 0 rfl rfl 0 (by decide) (hts _ m_56) (fun _ h9 => h9) rfl d_NT_value_1 ?_
  refine va_get (D := D) (ci := 1) (v := .long vl) (C := R_CO) (T := F_CO) (N := 10) hx hb hts in_CO hown hk.1 hP 1 rfl rfl 7 (by decide) (hts _ m_30) (fun _ h9 => h9) rfl d_NT_value_4 ?_
  exact Rt (some (.long vl)) (id, ix, wo, fr, fm, tb, mn, vl, rw, so) _ _ _ _ (rt_l d_NT_value_7) (⟨by rw [h.2.2.2.2.2.1], h⟩) hP hS

theorem a_some_1 {a : AS} {name step : Int64} {n v : Int32} (h : n < 1 ∨ 100 < n ∨ v < 0) : a_some a name step n v = (-1, a) := if_pos h
theorem a_some_2 {a : AS} {name step : Int64} {n v : Int32} {N : Nat} (hN : n = nI N) (h9 : N ≤ 100) (h : ¬ (n < 1 ∨ 100 < n ∨ v < 0)) : a_some a name step n v = (nI (a_smf name step v N 0 0 a).1, (a_smf name step v N 0 0 a).2) := by
  unfold a_some
  rw [if_neg h, hN, nI_clamp (by omega)]
theorem nv_i100 {x : Int32} (h : nI 1 ≤ x ∧ x ≤ nI 100) : ∃ N, N ≤ 100 ∧ x = nI N := by
  refine nI_of2 (M := nI 100) (n := 100) (by decide +kernel) ?_ h.2
  have h1 := h.1
  rw [Int32.le_iff_toInt_le] at h1
  rw [Int32.lt_iff_toInt_lt]
  have e1 : (nI 1).toInt = 1 := by decide +kernel
  have e0 : (0 : Int32).toInt = 0 := by decide
  omega
abbrev rm_NT_some : Room := { frames := 4, cells := 0, slots := 0, locals := 97 }
set_option maxHeartbeats 4000000 in
set_option maxRecDepth 100000 in
/-- some -/
theorem c_NT_some (l : Launch) (D : va_G) (ax : Nat) (ad : Nat → Nat) (cL cI : ClassId) (u0 : CS) (a : AS) (h : relS u0 a) (name step : Int64) (n0 v0 : Int32) : ct l y_NT_some b_NT_some 9 (some .int) rm_NT_some [.ref ax, .long name, .long step, .int n0, .int v0] D cL cI (wX ax ad cL cI u0) (fun v u => v = some (.int (a_some a name step n0 v0).1) ∧ relS u (a_some a name step n0 v0).2) (wX ax ad cL cI) := by
  obtain ⟨id, ix, wo, fr, fm, tb, mn, vl, rw, so⟩ := u0
  have h : rel id ix wo fr fm tb mn vl rw so a := h
  have hn9 : a.1 ≤ 900 := h.2.2.2.1.1
  have hmn : mn = a.1 := h.2.1.1
  have hfm : fm + a.1 = 900 := h.2.1.2
  refine ct_ofW (by decide) (Nat.le_of_ble_eq_true rfl) ?_
  intro p e s m below meth c Q ls hx hb hml hown hts hk hP hD hS hl Rt
  have hown : s.vm.findClass "NameTable" = some m.cls := hown
  have hl : lv_has ls 9 [(0, .ref ax), (1, .long name), (3, .long step), (5, .int n0), (6, .int v0)] := hl
  have hP : va_P D classes ([(ax, .inr (0, [.ref (ad 0)]))] ++ (wC ad cL cI id ix wo fr fm tb mn vl rw so) ++ []) s.heap := hP
  have hD : va_D _ ([(ax, .inr (0, [.ref (ad 0)]))] ++ (wC ad cL cI id ix wo fr fm tb mn vl rw so) ++ []) := hD
  refine lv_iload hx hb d_NT_some_0 (lv_at hl 3 rfl) ?_
  refine lv_iconst (v := nI 1) hx hb d_NT_some_2 (by decide +kernel) ?_
  refine lv_bipush (v := nI 100) hx hb d_NT_some_3 (by decide +kernel) ?_
  refine ct_callS (As := [.int n0, .int (nI 1), .int (nI 100)]) (rest := []) hx hb hml hown hts hk (c_NT_in l D cL cI n0 (nI 1) (nI 100)) 3 m_66 m_1 m_64 m_65 (by decide +kernel) ⟨Nat.le_of_ble_eq_true rfl, Nat.le_of_ble_eq_true rfl⟩ ⟨rfl, rfl⟩ rfl hl.1 rfl (Nat.le_of_ble_eq_true rfl) d_NT_some_5 ⟨Nat.le_of_ble_eq_true rfl, Nat.le_of_ble_eq_true rfl⟩ hP hD hS (fun v H locs hv hP hS => ?_)
  obtain ⟨r, rfl, hr⟩ := hv
  refine W.eq (g2 := F0 m 8 ls [.int r]) rfl ?_
  refine lv_if_eq (tgt := 16) hx hb d_NT_some_8 (by decide) (fun g1 => ?_) (fun g1 => ?_)
  · have hr : ¬ (nI 1 ≤ n0 ∧ n0 ≤ nI 100) := by
      rcases hr with ⟨q, -⟩ | ⟨-, q⟩
      · rw [g1] at q; exact absurd q (by decide)
      · exact q
    have e1 := a_some_1 (a := a) (name := name) (step := step) (v := v0) (nv_o2 (A := n0 < 1 ∨ 100 < n0 ∨ v0 < 0) hr (fun q => Or.inl q) (fun q => Or.inr (Or.inl q)))
    refine lv_iconst (v := (-1)) hx hb d_NT_some_16 (by decide +kernel) ?_
    exact Rt (some (.int (-1))) (id, ix, wo, fr, fm, tb, mn, vl, rw, so) _ _ _ _ (rt_i d_NT_some_17) (⟨by rw [e1], by rw [e1]; exact h⟩) hP hS
  · have hr : nI 1 ≤ n0 ∧ n0 ≤ nI 100 := by
      rcases hr with ⟨-, q⟩ | ⟨q, -⟩
      · exact q
      · exact absurd q g1
    refine lv_iload hx hb d_NT_some_11 (lv_at hl 4 rfl) ?_
    refine lv_if_ge (tgt := 18) hx hb d_NT_some_13 (by decide) (fun g2 => ?_) (fun g2 => ?_)
    · have hi7 : ¬ (n0 < 1 ∨ 100 < n0 ∨ v0 < 0) := by
        rintro (q | q | q)
        · exact nv_i2 hr (Or.inl q)
        · exact nv_i2 hr (Or.inr q)
        · exact absurd g2 (Int32.not_le.mpr q)
      obtain ⟨N, hN9, hN⟩ := nv_i100 hr
      have e1 := a_some_2 (a := a) (name := name) (step := step) hN hN9 hi7
      refine lv_iconst (v := nI 0) hx hb d_NT_some_18 (by decide +kernel) ?_
      refine lv_istore (lv' := [(7, .int (nI 0)), (0, .ref ax), (1, .long name), (3, .long step), (5, .int n0), (6, .int v0)]) hx hb d_NT_some_19 hl (by decide) rfl (fun ls hl => ?_)
      refine lv_iconst (v := nI 0) hx hb d_NT_some_21 (by decide +kernel) ?_
      refine lv_istore (lv' := [(8, .int (nI 0)), (7, .int (nI 0)), (0, .ref ax), (1, .long name), (3, .long step), (5, .int n0), (6, .int v0)]) hx hb d_NT_some_22 hl (by decide) rfl (fun ls hl => ?_)
      have hl := lv_sub hl (l' := [(0, .ref ax), (1, .long name), (3, .long step), (5, .int n0), (6, .int v0), (7, .int (nI 0)), (8, .int (nI 0))]) [2, 3, 4, 5, 6, 1, 0] rfl
      have loop : ∀ (d k did : Nat) (u : CS) (a1 : AS) (ls : Array Slot) (H : Heap) (locs : List Loc), N - k = d → k ≤ N → relS u a1 → a_smf name step v0 (N - k) k did a1 = a_smf name step v0 N 0 0 a → lv_has ls 9 [(0, .ref ax), (1, .long name), (3, .long step), (5, .int n0), (6, .int v0), (7, .int (nI did)), (8, .int (nI k))] → va_P D classes (wX ax ad cL cI u) H → va_D (ad_ (wX ax ad cL cI (id, ix, wo, fr, fm, tb, mn, vl, rw, so))) (wX ax ad cL cI u) → va_S (ad_ (wX ax ad cL cI (id, ix, wo, fr, fm, tb, mn, vl, rw, so))) s.heap H locs → W p l e rm_NT_some s m (List.toArray [.ref ax, .long name, .long step, .int n0, .int v0]) below meth c H locs 0 0 Q (F0 m 24 ls []) := by
        intro d
        induction d with
        | zero =>
          intro k did u a1 ls H locs hd hkN hrel hsm hl hP hD hS
          have hkN : k = N := by omega
          subst hkN
          rw [Nat.sub_self] at hsm
          refine lv_iload hx hb d_NT_some_24 (lv_at hl 6 rfl) ?_
          refine lv_iload hx hb d_NT_some_26 (lv_at hl 3 rfl) ?_
          refine lv_repi (nI k) (hN) ?_
          refine lv_icmp_ge (tgt := 61) hx hb d_NT_some_28 (by decide) (fun g3 => ?_) (fun g3 => ?_)
          · refine lv_iload hx hb d_NT_some_61 (lv_at hl 5 rfl) ?_
            exact Rt (some (.int (nI did))) u _ _ _ _ (rt_i d_NT_some_63) (⟨by rw [e1, ← hsm]; rfl, by rw [e1, ← hsm]; exact hrel⟩) hP hS
          · exact absurd (nI_le (Nat.le_refl _) (by omega)) g3
        | succ d ih =>
          intro k did u a1 ls H locs hd hkN hrel hsm hl hP hD hS
          rw [show N - k = (N - (k + 1)) + 1 by omega] at hsm
          refine lv_iload hx hb d_NT_some_24 (lv_at hl 6 rfl) ?_
          refine lv_iload hx hb d_NT_some_26 (lv_at hl 3 rfl) ?_
          refine lv_repi (nI N) (hN) ?_
          refine lv_icmp_ge (tgt := 61) hx hb d_NT_some_28 (by decide) (fun g3 => ?_) (fun g3 => ?_)
          · exact absurd g3 (nI_ge (by omega) (by omega))
          · refine lv_aload_n hx hb d_NT_some_31 rfl (lv_at hl 0 rfl) ?_
            refine lv_lload_n hx hb d_NT_some_32 rfl (lv_at hl 1 rfl) ?_
            refine lv_iload hx hb d_NT_some_33 (lv_at hl 6 rfl) ?_
            refine lv_i2l (v := (nI k).toInt64) hx hb d_NT_some_35 rfl ?_
            refine lv_lload_n hx hb d_NT_some_36 rfl (lv_at hl 2 rfl) ?_
            refine lv_lmul hx hb d_NT_some_37 ?_
            refine lv_ladd hx hb d_NT_some_38 ?_
            refine lv_iload hx hb d_NT_some_39 (lv_at hl 6 rfl) ?_
            refine lv_bipush (v := nI 7) hx hb d_NT_some_41 (by decide +kernel) ?_
            refine lv_iand hx hb d_NT_some_43 ?_
            refine lv_repi (nI (k % 8)) (pk_andN (by omega) 3 (by decide)) ?_
            refine lv_iload hx hb d_NT_some_44 (lv_at hl 4 rfl) ?_
            refine ct_callV (w1 := []) (wc := (wX ax ad cL cI u)) (w2 := []) (As := [.long (name + (((nI k).toInt64) * step)), .int (nI (k % 8)), .int v0]) (rest := []) hx hb hml hown hts hk (c_NT_add l D ax ad cL cI u a1 hrel (name + (nI k).toInt64 * step) (nI (k % 8)) v0) 3 m_63 m_1 m_91 m_61 m_62 (by decide +kernel) ⟨Nat.le_of_ble_eq_true rfl, Nat.le_of_ble_eq_true rfl⟩ ⟨rfl, rfl⟩ rfl rfl rfl hl.1 rfl (Nat.le_of_ble_eq_true rfl) d_NT_some_46 ⟨Nat.le_of_ble_eq_true rfl, Nat.le_of_ble_eq_true rfl⟩ hP hD hS (fun _ => rfl) (fun v u H locs hv hP hD hS => ?_)
            obtain ⟨rfl, hv⟩ := hv
            obtain ⟨A1, hA1⟩ : ∃ A1, A1 = a_add a1 (name + (nI k).toInt64 * step) (nI (k % 8)) v0 := ⟨_, rfl⟩
            rw [← hA1] at hv
            refine W.eq (g2 := F0 m 49 ls [.int A1.1]) (by rw [hA1]; rfl) ?_
            have hsm2 : a_smf name step v0 (N - (k + 1)) (k + 1) (if 0 < A1.1 then did + 1 else did) A1.2 = a_smf name step v0 N 0 0 a := by rw [hA1]; exact hsm
            skip
            refine lv_if_le (tgt := 55) hx hb d_NT_some_49 (by decide) (fun g4 => ?_) (fun g4 => ?_)
            · rw [if_neg (Int32.not_lt.mpr g4)] at hsm2
              refine lv_iinc (k := 6) (v := nI (k + 1)) (lv' := [(8, .int (nI (k + 1))), (0, .ref ax), (1, .long name), (3, .long step), (5, .int n0), (6, .int v0), (7, .int (nI did))]) hx hb d_NT_some_55 hl rfl (nv_inc _) (by decide) rfl (fun ls hl => ?_)
              refine lv_goto (tgt := 24) hx hb d_NT_some_58 (by decide) ?_
              have hl := lv_sub hl (l' := [(0, .ref ax), (1, .long name), (3, .long step), (5, .int n0), (6, .int v0), (7, .int (nI did)), (8, .int (nI (k + 1)))]) [1, 2, 3, 4, 5, 6, 0] rfl
              exact ih (k + 1) did _ A1.2 ls H locs (by omega) (by omega) hv hsm2 hl hP hD hS
            · rw [if_pos (Int32.not_le.mp g4)] at hsm2
              refine lv_iinc (k := 5) (v := nI (did + 1)) (lv' := [(7, .int (nI (did + 1))), (0, .ref ax), (1, .long name), (3, .long step), (5, .int n0), (6, .int v0), (8, .int (nI k))]) hx hb d_NT_some_52 hl rfl (nv_inc _) (by decide) rfl (fun ls hl => ?_)
              refine lv_iinc (k := 6) (v := nI (k + 1)) (lv' := [(8, .int (nI (k + 1))), (7, .int (nI (did + 1))), (0, .ref ax), (1, .long name), (3, .long step), (5, .int n0), (6, .int v0)]) hx hb d_NT_some_55 hl rfl (nv_inc _) (by decide) rfl (fun ls hl => ?_)
              refine lv_goto (tgt := 24) hx hb d_NT_some_58 (by decide) ?_
              have hl := lv_sub hl (l' := [(0, .ref ax), (1, .long name), (3, .long step), (5, .int n0), (6, .int v0), (7, .int (nI (did + 1))), (8, .int (nI (k + 1)))]) [2, 3, 4, 5, 6, 1, 0] rfl
              exact ih (k + 1) (did + 1) _ A1.2 ls H locs (by omega) (by omega) hv hsm2 hl hP hD hS
      exact loop N 0 0 (id, ix, wo, fr, fm, tb, mn, vl, rw, so) a ls _ _ rfl (Nat.zero_le _) h rfl hl hP hD hS
    · have e1 := a_some_1 (a := a) (name := name) (step := step) (n := n0) (Or.inr (Or.inr (Int32.not_le.mp g2)))
      refine lv_iconst (v := (-1)) hx hb d_NT_some_16 (by decide +kernel) ?_
      exact Rt (some (.int (-1))) (id, ix, wo, fr, fm, tb, mn, vl, rw, so) _ _ _ _ (rt_i d_NT_some_17) (⟨by rw [e1], by rw [e1]; exact h⟩) hP hS
end
section
/-! walks, 6: NameTableModel's methods (printed by gen/g15.py) -/
/-- the world of a NameTableModel that holds the row a -/
abbrev wA (am : Nat → Nat) (cL cI : ClassId) (a : AS) : va_W := wM am cL cI a.1 a.2.1 a.2.2.1 a.2.2.2
theorem fp_t {P : Nat → Bool} {k m : Nat} (h : P k = true) : fp P k (m + 1) = fp P (k + 1) m := by simp [fp, h]
theorem fp_f {P : Nat → Bool} {k m : Nat} (h : P k = false) : fp P k (m + 1) = k := by simp [fp, h]
/-- those from k + 1 to n have moved up by one -/
def shf {α : Type} (f : Nat → α) (n k : Nat) : Nat → α := fun j => if k < j ∧ j ≤ n then f (j - 1) else f j
theorem shf_0 {α : Type} (f : Nat → α) (n : Nat) : shf f n n = f := by
  funext j
  exact if_neg (by omega)
theorem shf_st {α : Type} (f : Nat → α) {n k : Nat} (h1 : 1 ≤ k) (h2 : k ≤ n) : (fun j => if j = k then shf f n k (k - 1) else shf f n k j) = shf f n (k - 1) := by
  funext j
  show (if j = k then shf f n k (k - 1) else shf f n k j) = shf f n (k - 1) j
  unfold shf
  by_cases h : j = k
  · rw [if_pos h, if_neg (by omega), if_pos (by omega), h]
  · rw [if_neg h]
    by_cases h3 : k < j ∧ j ≤ n
    · rw [if_pos h3, if_pos (by omega)]
    · rw [if_neg h3, if_neg (by omega)]
theorem shf_in {α : Type} (f : Nat → α) {n t : Nat} (x : α) (ht : t ≤ n) : (fun j => if j = t then x else shf f n t j) = ins f n t x := by
  funext j
  show (if j = t then x else shf f n t j) = ins f n t x j
  unfold shf ins
  by_cases h : j = t
  · rw [if_pos h, if_neg (by omega), if_pos h]
  · rw [if_neg h]
    by_cases h2 : j < t
    · rw [if_neg (by omega), if_pos h2]
    · rw [if_neg h2, if_neg h]
      by_cases h3 : j ≤ n
      · rw [if_pos (by omega), if_pos h3]
      · rw [if_neg (by omega), if_neg h3]
theorem shf_stI (f : Nat → Int32) {n k : Nat} (h1 : 1 ≤ k) (h2 : k ≤ n) : upd (shf f n k) k (shf f n k (k - 1)) = shf f n (k - 1) := shf_st f h1 h2
theorem shf_stL (f : Nat → Int64) {n k : Nat} (h1 : 1 ≤ k) (h2 : k ≤ n) : vp_updL (shf f n k) k (shf f n k (k - 1)) = shf f n (k - 1) := shf_st f h1 h2
theorem shf_inI (f : Nat → Int32) {n t : Nat} (x : Int32) (ht : t ≤ n) : upd (shf f n t) t x = ins f n t x := shf_in f x ht
theorem shf_inL (f : Nat → Int64) {n t : Nat} (x : Int64) (ht : t ≤ n) : vp_updL (shf f n t) t x = ins f n t x := shf_in f x ht
/-- those from t to k have come down by one -/
def dsh {α : Type} (f : Nat → α) (t k : Nat) : Nat → α := fun j => if t ≤ j ∧ j < k then f (j + 1) else f j
theorem dsh_0 {α : Type} (f : Nat → α) (t : Nat) : dsh f t t = f := by
  funext j
  exact if_neg (by omega)
theorem dsh_st {α : Type} (f : Nat → α) {t k : Nat} (h : t ≤ k) : (fun j => if j = k then dsh f t k (k + 1) else dsh f t k j) = dsh f t (k + 1) := by
  funext j
  show (if j = k then dsh f t k (k + 1) else dsh f t k j) = dsh f t (k + 1) j
  unfold dsh
  by_cases h1 : j = k
  · rw [if_pos h1, if_neg (by omega), if_pos (by omega), h1]
  · rw [if_neg h1]
    by_cases h3 : t ≤ j ∧ j < k
    · rw [if_pos h3, if_pos (by omega)]
    · rw [if_neg h3, if_neg (by omega)]
theorem dsh_stI (f : Nat → Int32) {t k : Nat} (h : t ≤ k) : upd (dsh f t k) k (dsh f t k (k + 1)) = dsh f t (k + 1) := dsh_st f h
theorem dsh_stL (f : Nat → Int64) {t k : Nat} (h : t ≤ k) : vp_updL (dsh f t k) k (dsh f t k (k + 1)) = dsh f t (k + 1) := dsh_st f h
theorem dsh_de {α : Type} (f : Nat → α) {t n : Nat} (h : 0 < n) : dsh f t (n - 1) = del f n t := by
  funext j
  unfold dsh del
  by_cases h3 : t ≤ j ∧ j + 1 < n
  · rw [if_pos h3, if_pos (by omega)]
  · rw [if_neg h3, if_neg (by omega)]
theorem a_add_le {a : AS} {name : Int64} {i v : Int32} (h : a.1 ≤ 900) : (a_add a name i v).2.1 ≤ 900 := by
  unfold a_add
  split
  · exact h
  · split
    · exact h
    · split
      · exact h
      · show a.1 + 1 ≤ 900
        omega
abbrev rm_MO_place : Room := { frames := 0, cells := 0, slots := 0, locals := 0 }
set_option maxHeartbeats 4000000 in
set_option maxRecDepth 100000 in
/-- place -/
theorem c_MO_place (l : Launch) (D : va_G) (am : Nat → Nat) (cL cI : ClassId) (a : AS) (h9 : a.1 ≤ 900) (name : Int64) (i : Int32) : ct l y_MO_place b_MO_place 5 (some .int) rm_MO_place [.ref (am 0), .long name, .int i] D cL cI (wA am cL cI a) (fun v (u : AS) => v = some (.int (nI (a_pl a name i))) ∧ u = a) (wA am cL cI) := by
  obtain ⟨n, I, X, V⟩ := a
  have h9 : n ≤ 900 := h9
  refine ct_ofW (by decide) (Nat.le_of_ble_eq_true rfl) ?_
  intro p e s m below meth c Q ls hx hb hml hown hts hk hP hD hS hl Rt
  have hown : s.vm.findClass "NameTableModel" = some m.cls := hown
  have hl : lv_has ls 5 [(0, .ref (am 0)), (1, .long name), (3, .int i)] := hl
  have hP : va_P D classes (wM am cL cI n I X V) s.heap := hP
  have hD : va_D _ (wM am cL cI n I X V) := hD
  refine lv_iconst (v := nI 0) hx hb d_MO_place_0 (by decide +kernel) ?_
  refine lv_istore (lv' := [(4, .int (nI 0)), (0, .ref (am 0)), (1, .long name), (3, .int i)]) hx hb d_MO_place_1 hl (by decide) rfl (fun ls hl => ?_)
  have hl := lv_sub hl (l' := [(0, .ref (am 0)), (1, .long name), (3, .int i), (4, .int (nI 0))]) [1, 2, 3, 0] rfl
  have loop : ∀ (d k : Nat) (ls : Array Slot) (H : Heap) (locs : List Loc), n - k = d → k ≤ n → fp (fun k => decide (kl (I k) (X k) name i)) k d = a_pl (n, I, X, V) name i → lv_has ls 5 [(0, .ref (am 0)), (1, .long name), (3, .int i), (4, .int (nI k))] → va_P D classes (wM am cL cI n I X V) H → va_D (ad_ (wA am cL cI (n, I, X, V))) (wM am cL cI n I X V) → va_S (ad_ (wA am cL cI (n, I, X, V))) s.heap H locs → W p l e rm_MO_place s m (List.toArray [.ref (am 0), .long name, .int i]) below meth c H locs 0 0 Q (F0 m 3 ls []) := by
    intro d
    induction d with
    | zero =>
      intro k ls H locs hd hkn hf hl hP hD hS
      have hf : k = a_pl (n, I, X, V) name i := hf
      refine lv_iload hx hb d_MO_place_3 (lv_at hl 3 rfl) ?_
      refine lv_aload_n hx hb d_MO_place_5 rfl (lv_at hl 0 rfl) ?_
      refine va_get (D := D) (ci := 2) (v := .int (nI n)) (C := R_MO) (T := F_MO) (N := 4) hx hb hts in_MO hown hk.1 hP 0 rfl rfl 3 (by decide) (hts _ m_150) (fun _ h9 => h9) rfl d_MO_place_6 ?_
      refine lv_icmp_ge (tgt := 53) hx hb d_MO_place_9 (by decide) (fun g1 => ?_) (fun g1 => ?_)
      · refine lv_iload hx hb d_MO_place_53 (lv_at hl 3 rfl) ?_
        exact Rt (some (.int (nI k))) (n, I, X, V) _ _ _ _ (rt_i d_MO_place_55) (⟨by rw [← hf], rfl⟩) hP hS
      · exact absurd (nI_le (by omega) (by omega)) g1
    | succ d ih =>
      intro k ls H locs hd hkn hf hl hP hD hS
      have hk9 : k < 900 := by omega
      refine lv_iload hx hb d_MO_place_3 (lv_at hl 3 rfl) ?_
      refine lv_aload_n hx hb d_MO_place_5 rfl (lv_at hl 0 rfl) ?_
      refine va_get (D := D) (ci := 2) (v := .int (nI n)) (C := R_MO) (T := F_MO) (N := 4) hx hb hts in_MO hown hk.1 hP 0 rfl rfl 3 (by decide) (hts _ m_150) (fun _ h9 => h9) rfl d_MO_place_6 ?_
      refine lv_icmp_ge (tgt := 53) hx hb d_MO_place_9 (by decide) (fun g1 => ?_) (fun g1 => ?_)
      · exact absurd g1 (nI_ge (by omega) (by omega))
      · have yes : kl (I k) (X k) name i → ∀ (H : Heap) (locs : List Loc), va_P D classes (wM am cL cI n I X V) H → va_D (ad_ (wA am cL cI (n, I, X, V))) (wM am cL cI n I X V) → va_S (ad_ (wA am cL cI (n, I, X, V))) s.heap H locs → W p l e rm_MO_place s m (List.toArray [.ref (am 0), .long name, .int i]) below meth c H locs 0 0 Q (F0 m 47 ls []) := by
          intro hy H locs hP hD hS
          rw [fp_t (by exact decide_eq_true hy)] at hf
          refine lv_iinc (k := 3) (v := nI (k + 1)) (lv' := [(4, .int (nI (k + 1))), (0, .ref (am 0)), (1, .long name), (3, .int i)]) hx hb d_MO_place_47 hl rfl (nv_inc _) (by decide) rfl (fun ls hl => ?_)
          refine lv_goto (tgt := 3) hx hb d_MO_place_50 (by decide) ?_
          have hl := lv_sub hl (l' := [(0, .ref (am 0)), (1, .long name), (3, .int i), (4, .int (nI (k + 1)))]) [1, 2, 3, 0] rfl
          exact ih (k + 1) ls H locs (by omega) (by omega) hf hl hP hD hS
        have no : ¬ kl (I k) (X k) name i → ∀ (H : Heap) (locs : List Loc), va_P D classes (wM am cL cI n I X V) H → va_D (ad_ (wA am cL cI (n, I, X, V))) (wM am cL cI n I X V) → va_S (ad_ (wA am cL cI (n, I, X, V))) s.heap H locs → W p l e rm_MO_place s m (List.toArray [.ref (am 0), .long name, .int i]) below meth c H locs 0 0 Q (F0 m 53 ls []) := by
          intro hy H locs hP hD hS
          rw [fp_f (by exact decide_eq_false hy)] at hf
          refine lv_iload hx hb d_MO_place_53 (lv_at hl 3 rfl) ?_
          exact Rt (some (.int (nI k))) (n, I, X, V) _ _ _ _ (rt_i d_MO_place_55) (⟨by rw [← hf], rfl⟩) hP hS
        refine lv_aload_n hx hb d_MO_place_12 rfl (lv_at hl 0 rfl) ?_
        refine va_get (D := D) (ci := 2) (v := .ref (am 1)) (C := R_MO) (T := F_MO) (N := 4) hx hb hts in_MO hown hk.1 hP 0 rfl rfl 0 (by decide) (hts _ m_147) (fun _ h9 => h9) rfl d_MO_place_13 ?_
        refine lv_iload hx hb d_MO_place_16 (lv_at hl 3 rfl) ?_
        refine xl_ald hx hb hk.1 hP 1 0 rfl rfl k (I k) (rfl) (hk9) (by decide) (rfl) d_MO_place_18 ?_
        refine lv_lload_n hx hb d_MO_place_19 rfl (lv_at hl 1 rfl) ?_
        refine W.lcmp hx hb d_MO_place_20 ?_
        refine lv_if_lt (tgt := 47) hx hb d_MO_place_21 (by decide) (fun g2 => ?_) (fun g2 => ?_)
        · exact yes (Or.inl ((lg_cmp_lt _ _).mp g2)) _ _ hP hD hS
        · have g2 : ¬ I k < name := fun q => g2 ((lg_cmp_lt _ _).mpr q)
          refine lv_aload_n hx hb d_MO_place_24 rfl (lv_at hl 0 rfl) ?_
          refine va_get (D := D) (ci := 2) (v := .ref (am 1)) (C := R_MO) (T := F_MO) (N := 4) hx hb hts in_MO hown hk.1 hP 0 rfl rfl 0 (by decide) (hts _ m_147) (fun _ h9 => h9) rfl d_MO_place_25 ?_
          refine lv_iload hx hb d_MO_place_28 (lv_at hl 3 rfl) ?_
          refine xl_ald hx hb hk.1 hP 1 0 rfl rfl k (I k) (rfl) (hk9) (by decide) (rfl) d_MO_place_30 ?_
          refine lv_lload_n hx hb d_MO_place_31 rfl (lv_at hl 1 rfl) ?_
          refine W.lcmp hx hb d_MO_place_32 ?_
          refine lv_if_ne (tgt := 53) hx hb d_MO_place_33 (by decide) (fun g3 => ?_) (fun g3 => ?_)
          · exact no (fun q => by rcases q with q | q; exact g2 q; exact g3 ((lg_cmp_eq _ _).mpr q.1)) _ _ hP hD hS
          · have g3 := (lg_cmp_eq _ _).mp g3
            refine lv_aload_n hx hb d_MO_place_36 rfl (lv_at hl 0 rfl) ?_
            refine va_get (D := D) (ci := 2) (v := .ref (am 2)) (C := R_MO) (T := F_MO) (N := 4) hx hb hts in_MO hown hk.1 hP 0 rfl rfl 1 (by decide) (hts _ m_148) (fun _ h9 => h9) rfl d_MO_place_37 ?_
            refine lv_iload hx hb d_MO_place_40 (lv_at hl 3 rfl) ?_
            refine xi_ald hx hb hk.1 hP 2 1 rfl rfl k (X k) (rfl) (hk9) (by decide) (rfl) d_MO_place_42 ?_
            refine lv_iload_n hx hb d_MO_place_43 rfl (lv_at hl 2 rfl) ?_
            refine lv_icmp_ge (tgt := 53) hx hb d_MO_place_44 (by decide) (fun g4 => ?_) (fun g4 => ?_)
            · exact no (fun q => by rcases q with q | q; exact g2 q; exact absurd g4 (Int32.not_le.mpr q.2)) _ _ hP hD hS
            · exact yes (Or.inr ⟨g3, Int32.not_le.mp g4⟩) _ _ hP hD hS
  exact loop n 0 ls _ _ rfl (Nat.zero_le _) rfl hl hP hD hS

abbrev rm_MO_is : Room := { frames := 0, cells := 0, slots := 0, locals := 0 }
set_option maxHeartbeats 4000000 in
set_option maxRecDepth 100000 in
/-- is -/
theorem c_MO_is (l : Launch) (D : va_G) (am : Nat → Nat) (cL cI : ClassId) (a : AS) (h9 : a.1 ≤ 900) (k : Nat) (hk9 : k ≤ 900) (name : Int64) (i : Int32) : ct l y_MO_is b_MO_is 5 (some .boolean) rm_MO_is [.ref (am 0), .int (nI k), .long name, .int i] D cL cI (wA am cL cI a) (fun v (u : AS) => (∃ r : Int32, v = some (.int r) ∧ ((r = 1 ∧ k < a.1 ∧ a.2.1 k = name ∧ a.2.2.1 k = i) ∨ (r = 0 ∧ ¬ (k < a.1 ∧ a.2.1 k = name ∧ a.2.2.1 k = i)))) ∧ u = a) (wA am cL cI) := by
  obtain ⟨n, I, X, V⟩ := a
  have h9 : n ≤ 900 := h9
  refine ct_ofW (by decide) (Nat.le_of_ble_eq_true rfl) ?_
  intro p e s m below meth c Q ls hx hb hml hown hts hk hP hD hS hl Rt
  have hown : s.vm.findClass "NameTableModel" = some m.cls := hown
  have hl : lv_has ls 5 [(0, .ref (am 0)), (1, .int (nI k)), (2, .long name), (4, .int i)] := hl
  have hP : va_P D classes (wM am cL cI n I X V) s.heap := hP
  have hD : va_D _ (wM am cL cI n I X V) := hD
  refine lv_iload_n hx hb d_MO_is_0 rfl (lv_at hl 1 rfl) ?_
  refine lv_aload_n hx hb d_MO_is_1 rfl (lv_at hl 0 rfl) ?_
  refine va_get (D := D) (ci := 2) (v := .int (nI n)) (C := R_MO) (T := F_MO) (N := 4) hx hb hts in_MO hown hk.1 hP 0 rfl rfl 3 (by decide) (hts _ m_150) (fun _ h9 => h9) rfl d_MO_is_2 ?_
  refine lv_icmp_ge (tgt := 34) hx hb d_MO_is_5 (by decide) (fun g1 => ?_) (fun g1 => ?_)
  · have g1 := (nI_leI (by omega) (by omega)).mp g1
    refine lv_iconst (v := 0) hx hb d_MO_is_34 (by decide +kernel) ?_
    exact Rt (some (.int 0)) (n, I, X, V) _ _ _ _ (rt_z d_MO_is_35 rfl) (⟨⟨0, rfl, Or.inr ⟨rfl, fun q => absurd q.1 (Nat.not_lt_of_le g1)⟩⟩, rfl⟩) hP hS
  · have g1 := Nat.lt_of_not_le (fun q => g1 ((nI_leI (by omega) (by omega)).mpr q))
    refine lv_aload_n hx hb d_MO_is_8 rfl (lv_at hl 0 rfl) ?_
    refine va_get (D := D) (ci := 2) (v := .ref (am 1)) (C := R_MO) (T := F_MO) (N := 4) hx hb hts in_MO hown hk.1 hP 0 rfl rfl 0 (by decide) (hts _ m_147) (fun _ h9 => h9) rfl d_MO_is_9 ?_
    refine lv_iload_n hx hb d_MO_is_12 rfl (lv_at hl 1 rfl) ?_
    refine xl_ald hx hb hk.1 hP 1 0 rfl rfl k (I k) (rfl) (by omega) (by decide) (rfl) d_MO_is_13 ?_
    refine lv_lload_n hx hb d_MO_is_14 rfl (lv_at hl 2 rfl) ?_
    refine W.lcmp hx hb d_MO_is_15 ?_
    refine lv_if_ne (tgt := 34) hx hb d_MO_is_16 (by decide) (fun g2 => ?_) (fun g2 => ?_)
    · refine lv_iconst (v := 0) hx hb d_MO_is_34 (by decide +kernel) ?_
      exact Rt (some (.int 0)) (n, I, X, V) _ _ _ _ (rt_z d_MO_is_35 rfl) (⟨⟨0, rfl, Or.inr ⟨rfl, fun q => g2 ((lg_cmp_eq _ _).mpr q.2.1)⟩⟩, rfl⟩) hP hS
    · refine lv_aload_n hx hb d_MO_is_19 rfl (lv_at hl 0 rfl) ?_
      refine va_get (D := D) (ci := 2) (v := .ref (am 2)) (C := R_MO) (T := F_MO) (N := 4) hx hb hts in_MO hown hk.1 hP 0 rfl rfl 1 (by decide) (hts _ m_148) (fun _ h9 => h9) rfl d_MO_is_20 ?_
      refine lv_iload_n hx hb d_MO_is_23 rfl (lv_at hl 1 rfl) ?_
      refine xi_ald hx hb hk.1 hP 2 1 rfl rfl k (X k) (rfl) (by omega) (by decide) (rfl) d_MO_is_24 ?_
      refine lv_iload hx hb d_MO_is_25 (lv_at hl 3 rfl) ?_
      refine lv_icmp_ne (tgt := 34) hx hb d_MO_is_27 (by decide) (fun g3 => ?_) (fun g3 => ?_)
      · refine lv_iconst (v := 0) hx hb d_MO_is_34 (by decide +kernel) ?_
        exact Rt (some (.int 0)) (n, I, X, V) _ _ _ _ (rt_z d_MO_is_35 rfl) (⟨⟨0, rfl, Or.inr ⟨rfl, fun q => g3 q.2.2⟩⟩, rfl⟩) hP hS
      · refine lv_iconst (v := 1) hx hb d_MO_is_30 (by decide +kernel) ?_
        refine lv_goto (tgt := 35) hx hb d_MO_is_31 (by decide) ?_
        exact Rt (some (.int 1)) (n, I, X, V) _ _ _ _ (rt_z d_MO_is_35 rfl) (⟨⟨1, rfl, Or.inl ⟨rfl, g1, (lg_cmp_eq _ _).mp g2, g3⟩⟩, rfl⟩) hP hS

abbrev rm_MO_go : Room := { frames := 0, cells := 0, slots := 0, locals := 0 }
set_option maxHeartbeats 4000000 in
set_option maxRecDepth 100000 in
/-- go -/
theorem c_MO_go (l : Launch) (D : va_G) (am : Nat → Nat) (cL cI : ClassId) (a : AS) (h9 : a.1 ≤ 900) (t : Nat) (ht : t < a.1) : ct l y_MO_go b_MO_go 4 (some .int) rm_MO_go [.ref (am 0), .int (nI t)] D cL cI (wA am cL cI a) (fun v (u : AS) => v = some (.int (a.2.2.2 t)) ∧ u = a_del a t) (wA am cL cI) := by
  obtain ⟨n, I, X, V⟩ := a
  have h9 : n ≤ 900 := h9
  refine ct_ofW (by decide) (Nat.le_of_ble_eq_true rfl) ?_
  intro p e s m below meth c Q ls hx hb hml hown hts hk hP hD hS hl Rt
  have hown : s.vm.findClass "NameTableModel" = some m.cls := hown
  have hl : lv_has ls 4 [(0, .ref (am 0)), (1, .int (nI t))] := hl
  have hP : va_P D classes (wM am cL cI n I X V) s.heap := hP
  have hD : va_D _ (wM am cL cI n I X V) := hD
  have ht : t < n := ht
  refine lv_aload_n hx hb d_MO_go_0 rfl (lv_at hl 0 rfl) ?_
  refine va_get (D := D) (ci := 2) (v := .ref (am 3)) (C := R_MO) (T := F_MO) (N := 4) hx hb hts in_MO hown hk.1 hP 0 rfl rfl 2 (by decide) (hts _ m_149) (fun _ h9 => h9) rfl d_MO_go_1 ?_
  refine lv_iload_n hx hb d_MO_go_4 rfl (lv_at hl 1 rfl) ?_
  refine xi_ald hx hb hk.1 hP 3 1 rfl rfl t (V t) (rfl) (by omega) (by decide) (rfl) d_MO_go_5 ?_
  refine lv_istore_n (lv' := [(2, .int (V t)), (0, .ref (am 0)), (1, .int (nI t))]) hx hb d_MO_go_6 rfl hl (by decide) rfl (fun ls hl => ?_)
  refine lv_aload_n hx hb d_MO_go_7 rfl (lv_at hl 1 rfl) ?_
  refine lv_dup hx hb d_MO_go_8 rfl ?_
  refine va_get (D := D) (ci := 2) (v := .int (nI n)) (C := R_MO) (T := F_MO) (N := 4) hx hb hts in_MO hown hk.1 hP 0 rfl rfl 3 (by decide) (hts _ m_150) (fun _ h9 => h9) rfl d_MO_go_9 ?_
  refine lv_iconst (v := nI 1) hx hb d_MO_go_12 (by decide +kernel) ?_
  refine lv_isub hx hb d_MO_go_13 ?_
  refine lv_repi (nI (n - 1)) (nv_sub1 (by omega)) ?_
  refine va_put (D := D) (ci := 2) (v := .int (nI (n - 1))) (ty := .int) (C := R_MO) (T := F_MO) (N := 4) hx hb hts in_MO t_MO t_MO_ok n_MO hown hk.1 hP hD hS 0 rfl rfl 3 (by decide) (hts _ m_150) (fun _ h9 => h9) rfl (by decide +kernel) rfl rfl (Nat.le_of_ble_eq_true rfl) d_MO_go_14 (fun H locs hP hD hS => ?_)
  have hP : va_P D classes (wM am cL cI (n - 1) I X V) H := hP
  have hD : va_D _ (wM am cL cI (n - 1) I X V) := hD
  refine lv_iload_n hx hb d_MO_go_17 rfl (lv_at hl 2 rfl) ?_
  refine lv_istore_n (lv' := [(3, .int (nI t)), (2, .int (V t)), (0, .ref (am 0)), (1, .int (nI t))]) hx hb d_MO_go_18 rfl hl (by decide) rfl (fun ls hl => ?_)
  have hl := lv_sub hl (l' := [(0, .ref (am 0)), (1, .int (nI t)), (2, .int (V t)), (3, .int (nI t))]) [2, 3, 1, 0] rfl
  have loop : ∀ (d k : Nat) (ls : Array Slot) (H : Heap) (locs : List Loc), n - 1 - k = d → t ≤ k → k ≤ n - 1 → lv_has ls 4 [(0, .ref (am 0)), (1, .int (nI t)), (2, .int (V t)), (3, .int (nI k))] → va_P D classes (wM am cL cI (n - 1) (dsh I t k) (dsh X t k) (dsh V t k)) H → va_D (ad_ (wA am cL cI (n, I, X, V))) (wM am cL cI (n - 1) (dsh I t k) (dsh X t k) (dsh V t k)) → va_S (ad_ (wA am cL cI (n, I, X, V))) s.heap H locs → W p l e rm_MO_go s m (List.toArray [.ref (am 0), .int (nI t)]) below meth c H locs 0 0 Q (F0 m 19 ls []) := by
    intro d
    induction d with
    | zero =>
      intro k ls H locs hd htk hkn hl hP hD hS
      have hkn : k = n - 1 := by omega
      refine lv_iload_n hx hb d_MO_go_19 rfl (lv_at hl 3 rfl) ?_
      refine lv_aload_n hx hb d_MO_go_20 rfl (lv_at hl 0 rfl) ?_
      refine va_get (D := D) (ci := 2) (v := .int (nI (n - 1))) (C := R_MO) (T := F_MO) (N := 4) hx hb hts in_MO hown hk.1 hP 0 rfl rfl 3 (by decide) (hts _ m_150) (fun _ h9 => h9) rfl d_MO_go_21 ?_
      refine lv_icmp_ge (tgt := 75) hx hb d_MO_go_24 (by decide) (fun g1 => ?_) (fun g1 => ?_)
      · subst hkn
        rw [dsh_de I (by omega), dsh_de X (by omega), dsh_de V (by omega)] at hP
        refine lv_iload_n hx hb d_MO_go_75 rfl (lv_at hl 2 rfl) ?_
        exact Rt (some (.int (V t))) (a_del (n, I, X, V) t) _ _ _ _ (rt_i d_MO_go_76) (⟨rfl, rfl⟩) hP hS
      · exact absurd (nI_le (by omega) (by omega)) g1
    | succ d ih =>
      intro k ls H locs hd htk hkn hl hP hD hS
      refine lv_iload_n hx hb d_MO_go_19 rfl (lv_at hl 3 rfl) ?_
      refine lv_aload_n hx hb d_MO_go_20 rfl (lv_at hl 0 rfl) ?_
      refine va_get (D := D) (ci := 2) (v := .int (nI (n - 1))) (C := R_MO) (T := F_MO) (N := 4) hx hb hts in_MO hown hk.1 hP 0 rfl rfl 3 (by decide) (hts _ m_150) (fun _ h9 => h9) rfl d_MO_go_21 ?_
      refine lv_icmp_ge (tgt := 75) hx hb d_MO_go_24 (by decide) (fun g1 => ?_) (fun g1 => ?_)
      · exact absurd g1 (nI_ge (by omega) (by omega))
      · refine lv_aload_n hx hb d_MO_go_27 rfl (lv_at hl 0 rfl) ?_
        refine va_get (D := D) (ci := 2) (v := .ref (am 1)) (C := R_MO) (T := F_MO) (N := 4) hx hb hts in_MO hown hk.1 hP 0 rfl rfl 0 (by decide) (hts _ m_147) (fun _ h9 => h9) rfl d_MO_go_28 ?_
        refine lv_iload_n hx hb d_MO_go_31 rfl (lv_at hl 3 rfl) ?_
        refine lv_aload_n hx hb d_MO_go_32 rfl (lv_at hl 0 rfl) ?_
        refine va_get (D := D) (ci := 2) (v := .ref (am 1)) (C := R_MO) (T := F_MO) (N := 4) hx hb hts in_MO hown hk.1 hP 0 rfl rfl 0 (by decide) (hts _ m_147) (fun _ h9 => h9) rfl d_MO_go_33 ?_
        refine lv_iload_n hx hb d_MO_go_36 rfl (lv_at hl 3 rfl) ?_
        refine lv_iconst (v := nI 1) hx hb d_MO_go_37 (by decide +kernel) ?_
        refine lv_iadd hx hb d_MO_go_38 ?_
        refine lv_repi (nI (k + 1)) (nI_1 _) ?_
        refine xl_ald hx hb hk.1 hP 1 0 rfl rfl (k + 1) ((dsh I t k) (k + 1)) (rfl) (by omega) (by decide) (rfl) d_MO_go_39 ?_
        refine xl_ast hx hb hk.1 hP hD hS 1 0 rfl rfl k (dsh I t (k + 1)) (rfl) (by omega) (by decide) (dsh_stL I htk) d_MO_go_40 (fun H locs hP hD hS => ?_)
        have hP : va_P D classes (wM am cL cI (n - 1) (dsh I t (k + 1)) (dsh X t k) (dsh V t k)) H := hP
        have hD : va_D _ (wM am cL cI (n - 1) (dsh I t (k + 1)) (dsh X t k) (dsh V t k)) := hD
        refine lv_aload_n hx hb d_MO_go_41 rfl (lv_at hl 0 rfl) ?_
        refine va_get (D := D) (ci := 2) (v := .ref (am 2)) (C := R_MO) (T := F_MO) (N := 4) hx hb hts in_MO hown hk.1 hP 0 rfl rfl 1 (by decide) (hts _ m_148) (fun _ h9 => h9) rfl d_MO_go_42 ?_
        refine lv_iload_n hx hb d_MO_go_45 rfl (lv_at hl 3 rfl) ?_
        refine lv_aload_n hx hb d_MO_go_46 rfl (lv_at hl 0 rfl) ?_
        refine va_get (D := D) (ci := 2) (v := .ref (am 2)) (C := R_MO) (T := F_MO) (N := 4) hx hb hts in_MO hown hk.1 hP 0 rfl rfl 1 (by decide) (hts _ m_148) (fun _ h9 => h9) rfl d_MO_go_47 ?_
        refine lv_iload_n hx hb d_MO_go_50 rfl (lv_at hl 3 rfl) ?_
        refine lv_iconst (v := nI 1) hx hb d_MO_go_51 (by decide +kernel) ?_
        refine lv_iadd hx hb d_MO_go_52 ?_
        refine lv_repi (nI (k + 1)) (nI_1 _) ?_
        refine xi_ald hx hb hk.1 hP 2 1 rfl rfl (k + 1) ((dsh X t k) (k + 1)) (rfl) (by omega) (by decide) (rfl) d_MO_go_53 ?_
        refine xi_ast hx hb hk.1 hP hD hS 2 1 rfl rfl k (dsh X t (k + 1)) (rfl) (by omega) (by decide) (dsh_stI X htk) d_MO_go_54 (fun H locs hP hD hS => ?_)
        have hP : va_P D classes (wM am cL cI (n - 1) (dsh I t (k + 1)) (dsh X t (k + 1)) (dsh V t k)) H := hP
        have hD : va_D _ (wM am cL cI (n - 1) (dsh I t (k + 1)) (dsh X t (k + 1)) (dsh V t k)) := hD
        refine lv_aload_n hx hb d_MO_go_55 rfl (lv_at hl 0 rfl) ?_
        refine va_get (D := D) (ci := 2) (v := .ref (am 3)) (C := R_MO) (T := F_MO) (N := 4) hx hb hts in_MO hown hk.1 hP 0 rfl rfl 2 (by decide) (hts _ m_149) (fun _ h9 => h9) rfl d_MO_go_56 ?_
        refine lv_iload_n hx hb d_MO_go_59 rfl (lv_at hl 3 rfl) ?_
        refine lv_aload_n hx hb d_MO_go_60 rfl (lv_at hl 0 rfl) ?_
        refine va_get (D := D) (ci := 2) (v := .ref (am 3)) (C := R_MO) (T := F_MO) (N := 4) hx hb hts in_MO hown hk.1 hP 0 rfl rfl 2 (by decide) (hts _ m_149) (fun _ h9 => h9) rfl d_MO_go_61 ?_
        refine lv_iload_n hx hb d_MO_go_64 rfl (lv_at hl 3 rfl) ?_
        refine lv_iconst (v := nI 1) hx hb d_MO_go_65 (by decide +kernel) ?_
        refine lv_iadd hx hb d_MO_go_66 ?_
        refine lv_repi (nI (k + 1)) (nI_1 _) ?_
        refine xi_ald hx hb hk.1 hP 3 1 rfl rfl (k + 1) ((dsh V t k) (k + 1)) (rfl) (by omega) (by decide) (rfl) d_MO_go_67 ?_
        refine xi_ast hx hb hk.1 hP hD hS 3 1 rfl rfl k (dsh V t (k + 1)) (rfl) (by omega) (by decide) (dsh_stI V htk) d_MO_go_68 (fun H locs hP hD hS => ?_)
        have hP : va_P D classes (wM am cL cI (n - 1) (dsh I t (k + 1)) (dsh X t (k + 1)) (dsh V t (k + 1))) H := hP
        have hD : va_D _ (wM am cL cI (n - 1) (dsh I t (k + 1)) (dsh X t (k + 1)) (dsh V t (k + 1))) := hD
        refine lv_iinc (k := 3) (v := nI (k + 1)) (lv' := [(3, .int (nI (k + 1))), (0, .ref (am 0)), (1, .int (nI t)), (2, .int (V t))]) hx hb d_MO_go_69 hl rfl (nv_inc _) (by decide) rfl (fun ls hl => ?_)
        refine lv_goto (tgt := 19) hx hb d_MO_go_72 (by decide) ?_
        have hl := lv_sub hl (l' := [(0, .ref (am 0)), (1, .int (nI t)), (2, .int (V t)), (3, .int (nI (k + 1)))]) [1, 2, 3, 0] rfl
        exact ih (k + 1) ls H locs (by omega) (by omega) (by omega) hl hP hD hS
  exact loop _ t ls _ _ rfl (Nat.le_refl _) (by omega) hl (by rw [dsh_0, dsh_0, dsh_0]; exact hP) (by rw [dsh_0, dsh_0, dsh_0]; exact hD) hS

theorem nv_dec1 {k : Nat} (h : 0 < k) : nI k + Int32.ofInt (-1) = nI (k - 1) := sb_m1 h
abbrev rm_MO_add : Room := { frames := 1, cells := 0, slots := 0, locals := 24 }
set_option maxHeartbeats 4000000 in
set_option maxRecDepth 100000 in
/-- add -/
theorem c_MO_add (l : Launch) (D : va_G) (am : Nat → Nat) (cL cI : ClassId) (a : AS) (h9 : a.1 ≤ 900) (name : Int64) (i v0 : Int32) : ct l y_MO_add b_MO_add 7 (some .int) rm_MO_add [.ref (am 0), .long name, .int i, .int v0] D cL cI (wA am cL cI a) (fun v (u : AS) => v = some (.int (a_add a name i v0).1) ∧ u = (a_add a name i v0).2) (wA am cL cI) := by
  obtain ⟨n, I, X, V⟩ := a
  have h9 : n ≤ 900 := h9
  refine ct_ofW (by decide) (Nat.le_of_ble_eq_true rfl) ?_
  intro p e s m below meth c Q ls hx hb hml hown hts hk hP hD hS hl Rt
  have hown : s.vm.findClass "NameTableModel" = some m.cls := hown
  have hl : lv_has ls 7 [(0, .ref (am 0)), (1, .long name), (3, .int i), (4, .int v0)] := hl
  have hP : va_P D classes (wM am cL cI n I X V) s.heap := hP
  have hD : va_D _ (wM am cL cI n I X V) := hD
  refine lv_iload_n hx hb d_MO_add_0 rfl (lv_at hl 2 rfl) ?_
  refine lv_if_lt (tgt := 15) hx hb d_MO_add_1 (by decide) (fun g1 => ?_) (fun g1 => ?_)
  · have e1 := a_add_1 (a := (n, I, X, V)) (name := name) (i := i) (v := v0) (Or.inl g1)
    refine lv_iconst (v := (-1)) hx hb d_MO_add_15 (by decide +kernel) ?_
    exact Rt (some (.int (-1))) (n, I, X, V) _ _ _ _ (rt_i d_MO_add_16) (⟨by rw [e1], by rw [e1]⟩) hP hS
  · refine lv_iload_n hx hb d_MO_add_4 rfl (lv_at hl 2 rfl) ?_
    refine lv_bipush (v := nI 7) hx hb d_MO_add_5 (by decide +kernel) ?_
    refine lv_icmp_gt (tgt := 15) hx hb d_MO_add_7 (by decide) (fun g2 => ?_) (fun g2 => ?_)
    · have e1 := a_add_1 (a := (n, I, X, V)) (name := name) (i := i) (v := v0) (Or.inr (Or.inl g2))
      refine lv_iconst (v := (-1)) hx hb d_MO_add_15 (by decide +kernel) ?_
      exact Rt (some (.int (-1))) (n, I, X, V) _ _ _ _ (rt_i d_MO_add_16) (⟨by rw [e1], by rw [e1]⟩) hP hS
    · refine lv_iload hx hb d_MO_add_10 (lv_at hl 3 rfl) ?_
      refine lv_if_ge (tgt := 17) hx hb d_MO_add_12 (by decide) (fun g3 => ?_) (fun g3 => ?_)
      · have hi7 : ¬ (i < 0 ∨ 7 < i ∨ v0 < 0) := by
          rintro (q | q | q)
          · exact g1 q
          · exact g2 q
          · exact absurd g3 (Int32.not_le.mpr q)
        refine lv_aload_n hx hb d_MO_add_17 rfl (lv_at hl 0 rfl) ?_
        refine lv_lload_n hx hb d_MO_add_18 rfl (lv_at hl 1 rfl) ?_
        refine lv_iload_n hx hb d_MO_add_19 rfl (lv_at hl 2 rfl) ?_
        refine ct_callV (w1 := []) (wc := (wA am cL cI (n, I, X, V))) (w2 := []) (As := [.long name, .int i]) (rest := []) hx hb hml hown hts hk (c_MO_place l D am cL cI (n, I, X, V) h9 name i) 2 m_167 m_3 m_164 m_166 s_MO_place (by decide +kernel) ⟨Nat.le_of_ble_eq_true rfl, Nat.le_of_ble_eq_true rfl⟩ ⟨rfl, rfl⟩ rfl rfl rfl hl.1 rfl (Nat.le_of_ble_eq_true rfl) d_MO_add_20 ⟨Nat.le_of_ble_eq_true rfl, Nat.le_of_ble_eq_true rfl⟩ hP hD hS (fun _ => rfl) (fun v u H locs hv hP hD hS => ?_)
        obtain ⟨rfl, rfl⟩ := hv
        obtain ⟨t, ht⟩ : ∃ t, t = a_pl (n, I, X, V) name i := ⟨_, rfl⟩
        have htn : t ≤ n := by rw [ht]; exact (a_pl_in (n, I, X, V) name i).1
        refine W.eq (g2 := F0 m 23 ls [.int (nI t)]) (by rw [ht]; rfl) ?_
        have hP : va_P D classes (wM am cL cI n I X V) H := hP
        have hD : va_D _ (wM am cL cI n I X V) := hD
        refine lv_istore (lv' := [(5, .int (nI t)), (0, .ref (am 0)), (1, .long name), (3, .int i), (4, .int v0)]) hx hb d_MO_add_23 hl (by decide) rfl (fun ls hl => ?_)
        refine lv_aload_n hx hb d_MO_add_25 rfl (lv_at hl 1 rfl) ?_
        refine lv_iload hx hb d_MO_add_26 (lv_at hl 0 rfl) ?_
        refine lv_lload_n hx hb d_MO_add_28 rfl (lv_at hl 2 rfl) ?_
        refine lv_iload_n hx hb d_MO_add_29 rfl (lv_at hl 3 rfl) ?_
        refine ct_callV (w1 := []) (wc := (wA am cL cI (n, I, X, V))) (w2 := []) (As := [.int (nI t), .long name, .int i]) (rest := []) hx hb hml hown hts hk (c_MO_is l D am cL cI (n, I, X, V) h9 t (by omega) name i) 3 m_171 m_3 m_168 m_170 s_MO_is (by decide +kernel) ⟨Nat.le_of_ble_eq_true rfl, Nat.le_of_ble_eq_true rfl⟩ ⟨rfl, rfl⟩ rfl rfl rfl hl.1 rfl (Nat.le_of_ble_eq_true rfl) d_MO_add_30 ⟨Nat.le_of_ble_eq_true rfl, Nat.le_of_ble_eq_true rfl⟩ hP hD hS (fun _ => rfl) (fun v u H locs hv hP hD hS => ?_)
        obtain ⟨⟨r, rfl, hr⟩, rfl⟩ := hv
        refine W.eq (g2 := F0 m 33 ls [.int r]) rfl ?_
        have hP : va_P D classes (wM am cL cI n I X V) H := hP
        have hD : va_D _ (wM am cL cI n I X V) := hD
        refine lv_if_eq (tgt := 39) hx hb d_MO_add_33 (by decide) (fun g4 => ?_) (fun g4 => ?_)
        · have hna : ¬ a_has (n, I, X, V) name i := by
            rw [show a_has (n, I, X, V) name i ↔ (t < n ∧ I t = name ∧ X t = i) by rw [ht]]
            rcases hr with ⟨q, -⟩ | ⟨-, q⟩
            · rw [g4] at q; exact absurd q (by decide)
            · exact q
          refine lv_aload_n hx hb d_MO_add_39 rfl (lv_at hl 1 rfl) ?_
          refine va_get (D := D) (ci := 2) (v := .int (nI n)) (C := R_MO) (T := F_MO) (N := 4) hx hb hts in_MO hown hk.1 hP 0 rfl rfl 3 (by decide) (hts _ m_150) (fun _ h9 => h9) rfl d_MO_add_40 ?_
          refine lv_sipush (v := nI 900) hx hb d_MO_add_43 (by decide +kernel) ?_
          refine lv_icmp_ne (tgt := 52) hx hb d_MO_add_46 (by decide) (fun g5 => ?_) (fun g5 => ?_)
          · have g5 : ¬ n = 900 := fun q => g5 (by rw [q])
            have e1 := a_add_5 hi7 hna g5
            refine lv_aload_n hx hb d_MO_add_52 rfl (lv_at hl 1 rfl) ?_
            refine va_get (D := D) (ci := 2) (v := .int (nI n)) (C := R_MO) (T := F_MO) (N := 4) hx hb hts in_MO hown hk.1 hP 0 rfl rfl 3 (by decide) (hts _ m_150) (fun _ h9 => h9) rfl d_MO_add_53 ?_
            refine lv_istore (lv' := [(6, .int (nI n)), (5, .int (nI t)), (0, .ref (am 0)), (1, .long name), (3, .int i), (4, .int v0)]) hx hb d_MO_add_56 hl (by decide) rfl (fun ls hl => ?_)
            have hl := lv_sub hl (l' := [(0, .ref (am 0)), (1, .long name), (3, .int i), (4, .int v0), (5, .int (nI t)), (6, .int (nI n))]) [2, 3, 4, 5, 1, 0] rfl
            have loop : ∀ (d k : Nat) (ls : Array Slot) (H : Heap) (locs : List Loc), k - t = d → t ≤ k → k ≤ n → lv_has ls 7 [(0, .ref (am 0)), (1, .long name), (3, .int i), (4, .int v0), (5, .int (nI t)), (6, .int (nI k))] → va_P D classes (wM am cL cI n (shf I n k) (shf X n k) (shf V n k)) H → va_D (ad_ (wA am cL cI (n, I, X, V))) (wM am cL cI n (shf I n k) (shf X n k) (shf V n k)) → va_S (ad_ (wA am cL cI (n, I, X, V))) s.heap H locs → W p l e rm_MO_add s m (List.toArray [.ref (am 0), .long name, .int i, .int v0]) below meth c H locs 0 0 Q (F0 m 58 ls []) := by
              intro d
              induction d with
              | zero =>
                intro k ls H locs hd htk hkn hl hP hD hS
                have hkt : k = t := by omega
                subst hkt
                refine lv_iload hx hb d_MO_add_58 (lv_at hl 5 rfl) ?_
                refine lv_iload hx hb d_MO_add_60 (lv_at hl 4 rfl) ?_
                refine lv_icmp_le (tgt := 119) hx hb d_MO_add_62 (by decide) (fun g6 => ?_) (fun g6 => ?_)
                · refine lv_aload_n hx hb d_MO_add_119 rfl (lv_at hl 0 rfl) ?_
                  refine va_get (D := D) (ci := 2) (v := .ref (am 1)) (C := R_MO) (T := F_MO) (N := 4) hx hb hts in_MO hown hk.1 hP 0 rfl rfl 0 (by decide) (hts _ m_147) (fun _ h9 => h9) rfl d_MO_add_120 ?_
                  refine lv_iload hx hb d_MO_add_123 (lv_at hl 4 rfl) ?_
                  refine lv_lload_n hx hb d_MO_add_125 rfl (lv_at hl 1 rfl) ?_
                  refine xl_ast hx hb hk.1 hP hD hS 1 0 rfl rfl k (ins I n k name) (rfl) (by omega) (by decide) (shf_inL I name hkn) d_MO_add_126 (fun H locs hP hD hS => ?_)
                  have hP : va_P D classes (wM am cL cI n (ins I n k name) (shf X n k) (shf V n k)) H := hP
                  have hD : va_D _ (wM am cL cI n (ins I n k name) (shf X n k) (shf V n k)) := hD
                  refine lv_aload_n hx hb d_MO_add_127 rfl (lv_at hl 0 rfl) ?_
                  refine va_get (D := D) (ci := 2) (v := .ref (am 2)) (C := R_MO) (T := F_MO) (N := 4) hx hb hts in_MO hown hk.1 hP 0 rfl rfl 1 (by decide) (hts _ m_148) (fun _ h9 => h9) rfl d_MO_add_128 ?_
                  refine lv_iload hx hb d_MO_add_131 (lv_at hl 4 rfl) ?_
                  refine lv_iload_n hx hb d_MO_add_133 rfl (lv_at hl 2 rfl) ?_
                  refine xi_ast hx hb hk.1 hP hD hS 2 1 rfl rfl k (ins X n k i) (rfl) (by omega) (by decide) (shf_inI X i hkn) d_MO_add_134 (fun H locs hP hD hS => ?_)
                  have hP : va_P D classes (wM am cL cI n (ins I n k name) (ins X n k i) (shf V n k)) H := hP
                  have hD : va_D _ (wM am cL cI n (ins I n k name) (ins X n k i) (shf V n k)) := hD
                  refine lv_aload_n hx hb d_MO_add_135 rfl (lv_at hl 0 rfl) ?_
                  refine va_get (D := D) (ci := 2) (v := .ref (am 3)) (C := R_MO) (T := F_MO) (N := 4) hx hb hts in_MO hown hk.1 hP 0 rfl rfl 2 (by decide) (hts _ m_149) (fun _ h9 => h9) rfl d_MO_add_136 ?_
                  refine lv_iload hx hb d_MO_add_139 (lv_at hl 4 rfl) ?_
                  refine lv_iload hx hb d_MO_add_141 (lv_at hl 3 rfl) ?_
                  refine xi_ast hx hb hk.1 hP hD hS 3 1 rfl rfl k (ins V n k v0) (rfl) (by omega) (by decide) (shf_inI V v0 hkn) d_MO_add_143 (fun H locs hP hD hS => ?_)
                  have hP : va_P D classes (wM am cL cI n (ins I n k name) (ins X n k i) (ins V n k v0)) H := hP
                  have hD : va_D _ (wM am cL cI n (ins I n k name) (ins X n k i) (ins V n k v0)) := hD
                  refine lv_aload_n hx hb d_MO_add_144 rfl (lv_at hl 0 rfl) ?_
                  refine lv_dup hx hb d_MO_add_145 rfl ?_
                  refine va_get (D := D) (ci := 2) (v := .int (nI n)) (C := R_MO) (T := F_MO) (N := 4) hx hb hts in_MO hown hk.1 hP 0 rfl rfl 3 (by decide) (hts _ m_150) (fun _ h9 => h9) rfl d_MO_add_146 ?_
                  refine lv_iconst (v := nI 1) hx hb d_MO_add_149 (by decide +kernel) ?_
                  refine lv_iadd hx hb d_MO_add_150 ?_
                  refine lv_repi (nI (n + 1)) (nI_1 _) ?_
                  refine va_put (D := D) (ci := 2) (v := .int (nI (n + 1))) (ty := .int) (C := R_MO) (T := F_MO) (N := 4) hx hb hts in_MO t_MO t_MO_ok n_MO hown hk.1 hP hD hS 0 rfl rfl 3 (by decide) (hts _ m_150) (fun _ h9 => h9) rfl (by decide +kernel) rfl rfl (Nat.le_of_ble_eq_true rfl) d_MO_add_151 (fun H locs hP hD hS => ?_)
                  have hP : va_P D classes (wM am cL cI (n + 1) (ins I n k name) (ins X n k i) (ins V n k v0)) H := hP
                  have hD : va_D _ (wM am cL cI (n + 1) (ins I n k name) (ins X n k i) (ins V n k v0)) := hD
                  refine lv_aload_n hx hb d_MO_add_154 rfl (lv_at hl 0 rfl) ?_
                  refine va_get (D := D) (ci := 2) (v := .int (nI (n + 1))) (C := R_MO) (T := F_MO) (N := 4) hx hb hts in_MO hown hk.1 hP 0 rfl rfl 3 (by decide) (hts _ m_150) (fun _ h9 => h9) rfl d_MO_add_155 ?_
                  exact Rt (some (.int (nI (n + 1)))) (n + 1, ins I n k name, ins X n k i, ins V n k v0) _ _ _ _ (rt_i d_MO_add_158) (⟨by rw [e1], by rw [e1]; unfold a_ins; rw [← ht]⟩) hP hS
                · exact absurd (nI_le (Nat.le_refl _) (by omega)) g6
              | succ d ih =>
                intro k ls H locs hd htk hkn hl hP hD hS
                refine lv_iload hx hb d_MO_add_58 (lv_at hl 5 rfl) ?_
                refine lv_iload hx hb d_MO_add_60 (lv_at hl 4 rfl) ?_
                refine lv_icmp_le (tgt := 119) hx hb d_MO_add_62 (by decide) (fun g6 => ?_) (fun g6 => ?_)
                · exact absurd g6 (nI_ge (by omega) (by omega))
                · refine lv_aload_n hx hb d_MO_add_65 rfl (lv_at hl 0 rfl) ?_
                  refine va_get (D := D) (ci := 2) (v := .ref (am 1)) (C := R_MO) (T := F_MO) (N := 4) hx hb hts in_MO hown hk.1 hP 0 rfl rfl 0 (by decide) (hts _ m_147) (fun _ h9 => h9) rfl d_MO_add_66 ?_
                  refine lv_iload hx hb d_MO_add_69 (lv_at hl 5 rfl) ?_
                  refine lv_aload_n hx hb d_MO_add_71 rfl (lv_at hl 0 rfl) ?_
                  refine va_get (D := D) (ci := 2) (v := .ref (am 1)) (C := R_MO) (T := F_MO) (N := 4) hx hb hts in_MO hown hk.1 hP 0 rfl rfl 0 (by decide) (hts _ m_147) (fun _ h9 => h9) rfl d_MO_add_72 ?_
                  refine lv_iload hx hb d_MO_add_75 (lv_at hl 5 rfl) ?_
                  refine lv_iconst (v := nI 1) hx hb d_MO_add_77 (by decide +kernel) ?_
                  refine lv_isub hx hb d_MO_add_78 ?_
                  refine lv_repi (nI (k - 1)) (nv_sub1 (by omega)) ?_
                  refine xl_ald hx hb hk.1 hP 1 0 rfl rfl (k - 1) ((shf I n k) (k - 1)) (rfl) (by omega) (by decide) (rfl) d_MO_add_79 ?_
                  refine xl_ast hx hb hk.1 hP hD hS 1 0 rfl rfl k (shf I n (k - 1)) (rfl) (by omega) (by decide) (shf_stL I (by omega) hkn) d_MO_add_80 (fun H locs hP hD hS => ?_)
                  have hP : va_P D classes (wM am cL cI n (shf I n (k - 1)) (shf X n k) (shf V n k)) H := hP
                  have hD : va_D _ (wM am cL cI n (shf I n (k - 1)) (shf X n k) (shf V n k)) := hD
                  refine lv_aload_n hx hb d_MO_add_81 rfl (lv_at hl 0 rfl) ?_
                  refine va_get (D := D) (ci := 2) (v := .ref (am 2)) (C := R_MO) (T := F_MO) (N := 4) hx hb hts in_MO hown hk.1 hP 0 rfl rfl 1 (by decide) (hts _ m_148) (fun _ h9 => h9) rfl d_MO_add_82 ?_
                  refine lv_iload hx hb d_MO_add_85 (lv_at hl 5 rfl) ?_
                  refine lv_aload_n hx hb d_MO_add_87 rfl (lv_at hl 0 rfl) ?_
                  refine va_get (D := D) (ci := 2) (v := .ref (am 2)) (C := R_MO) (T := F_MO) (N := 4) hx hb hts in_MO hown hk.1 hP 0 rfl rfl 1 (by decide) (hts _ m_148) (fun _ h9 => h9) rfl d_MO_add_88 ?_
                  refine lv_iload hx hb d_MO_add_91 (lv_at hl 5 rfl) ?_
                  refine lv_iconst (v := nI 1) hx hb d_MO_add_93 (by decide +kernel) ?_
                  refine lv_isub hx hb d_MO_add_94 ?_
                  refine lv_repi (nI (k - 1)) (nv_sub1 (by omega)) ?_
                  refine xi_ald hx hb hk.1 hP 2 1 rfl rfl (k - 1) ((shf X n k) (k - 1)) (rfl) (by omega) (by decide) (rfl) d_MO_add_95 ?_
                  refine xi_ast hx hb hk.1 hP hD hS 2 1 rfl rfl k (shf X n (k - 1)) (rfl) (by omega) (by decide) (shf_stI X (by omega) hkn) d_MO_add_96 (fun H locs hP hD hS => ?_)
                  have hP : va_P D classes (wM am cL cI n (shf I n (k - 1)) (shf X n (k - 1)) (shf V n k)) H := hP
                  have hD : va_D _ (wM am cL cI n (shf I n (k - 1)) (shf X n (k - 1)) (shf V n k)) := hD
                  refine lv_aload_n hx hb d_MO_add_97 rfl (lv_at hl 0 rfl) ?_
                  refine va_get (D := D) (ci := 2) (v := .ref (am 3)) (C := R_MO) (T := F_MO) (N := 4) hx hb hts in_MO hown hk.1 hP 0 rfl rfl 2 (by decide) (hts _ m_149) (fun _ h9 => h9) rfl d_MO_add_98 ?_
                  refine lv_iload hx hb d_MO_add_101 (lv_at hl 5 rfl) ?_
                  refine lv_aload_n hx hb d_MO_add_103 rfl (lv_at hl 0 rfl) ?_
                  refine va_get (D := D) (ci := 2) (v := .ref (am 3)) (C := R_MO) (T := F_MO) (N := 4) hx hb hts in_MO hown hk.1 hP 0 rfl rfl 2 (by decide) (hts _ m_149) (fun _ h9 => h9) rfl d_MO_add_104 ?_
                  refine lv_iload hx hb d_MO_add_107 (lv_at hl 5 rfl) ?_
                  refine lv_iconst (v := nI 1) hx hb d_MO_add_109 (by decide +kernel) ?_
                  refine lv_isub hx hb d_MO_add_110 ?_
                  refine lv_repi (nI (k - 1)) (nv_sub1 (by omega)) ?_
                  refine xi_ald hx hb hk.1 hP 3 1 rfl rfl (k - 1) ((shf V n k) (k - 1)) (rfl) (by omega) (by decide) (rfl) d_MO_add_111 ?_
                  refine xi_ast hx hb hk.1 hP hD hS 3 1 rfl rfl k (shf V n (k - 1)) (rfl) (by omega) (by decide) (shf_stI V (by omega) hkn) d_MO_add_112 (fun H locs hP hD hS => ?_)
                  have hP : va_P D classes (wM am cL cI n (shf I n (k - 1)) (shf X n (k - 1)) (shf V n (k - 1))) H := hP
                  have hD : va_D _ (wM am cL cI n (shf I n (k - 1)) (shf X n (k - 1)) (shf V n (k - 1))) := hD
                  refine lv_iinc (k := 5) (v := nI (k - 1)) (lv' := [(6, .int (nI (k - 1))), (0, .ref (am 0)), (1, .long name), (3, .int i), (4, .int v0), (5, .int (nI t))]) hx hb d_MO_add_113 hl rfl (nv_dec1 (by omega)) (by decide) rfl (fun ls hl => ?_)
                  refine lv_goto (tgt := 58) hx hb d_MO_add_116 (by decide) ?_
                  have hl := lv_sub hl (l' := [(0, .ref (am 0)), (1, .long name), (3, .int i), (4, .int v0), (5, .int (nI t)), (6, .int (nI (k - 1)))]) [1, 2, 3, 4, 5, 0] rfl
                  exact ih (k - 1) ls H locs (by omega) (by omega) (by omega) hl hP hD hS
            exact loop _ n ls _ _ rfl htn (Nat.le_refl _) hl (by rw [shf_0, shf_0, shf_0]; exact hP) (by rw [shf_0, shf_0, shf_0]; exact hD) hS
          · have g5 : n = 900 := (nI_eq (by omega) (by decide)).mp g5
            have e1 := a_add_4 hi7 hna g5
            refine lv_bipush (v := (-4)) hx hb d_MO_add_49 (by decide +kernel) ?_
            exact Rt (some (.int (-4))) (n, I, X, V) _ _ _ _ (rt_i d_MO_add_51) (⟨by rw [e1], by rw [e1]⟩) hP hS
        · have hna : a_has (n, I, X, V) name i := by
            rw [show a_has (n, I, X, V) name i ↔ (t < n ∧ I t = name ∧ X t = i) by rw [ht]]
            rcases hr with ⟨-, q⟩ | ⟨q, -⟩
            · exact q
            · exact absurd q g4
          have e1 := a_add_3 hi7 hna
          refine lv_bipush (v := (-3)) hx hb d_MO_add_36 (by decide +kernel) ?_
          exact Rt (some (.int (-3))) (n, I, X, V) _ _ _ _ (rt_i d_MO_add_38) (⟨by rw [e1], by rw [e1]⟩) hP hS
      · have e1 := a_add_1 (a := (n, I, X, V)) (name := name) (i := i) (v := v0) (Or.inr (Or.inr (Int32.not_le.mp g3)))
        refine lv_iconst (v := (-1)) hx hb d_MO_add_15 (by decide +kernel) ?_
        exact Rt (some (.int (-1))) (n, I, X, V) _ _ _ _ (rt_i d_MO_add_16) (⟨by rw [e1], by rw [e1]⟩) hP hS
end
section
/-! walks, 7: the rest of NameTableModel (printed by gen/g15.py) -/
abbrev rm_MO_remove : Room := { frames := 1, cells := 0, slots := 0, locals := 24 }
set_option maxHeartbeats 4000000 in
set_option maxRecDepth 100000 in
/-- remove -/
theorem c_MO_remove (l : Launch) (D : va_G) (am : Nat → Nat) (cL cI : ClassId) (a : AS) (h9 : a.1 ≤ 900) (name : Int64) (i : Int32) : ct l y_MO_remove b_MO_remove 5 (some .int) rm_MO_remove [.ref (am 0), .long name, .int i] D cL cI (wA am cL cI a) (fun v (u : AS) => v = some (.int (a_rem a name i).1) ∧ u = (a_rem a name i).2) (wA am cL cI) := by
  obtain ⟨n, I, X, V⟩ := a
  have h9 : n ≤ 900 := h9
  refine ct_ofW (by decide) (Nat.le_of_ble_eq_true rfl) ?_
  intro p e s m below meth c Q ls hx hb hml hown hts hk hP hD hS hl Rt
  have hown : s.vm.findClass "NameTableModel" = some m.cls := hown
  have hl : lv_has ls 5 [(0, .ref (am 0)), (1, .long name), (3, .int i)] := hl
  have hP : va_P D classes (wM am cL cI n I X V) s.heap := hP
  have hD : va_D _ (wM am cL cI n I X V) := hD
  refine lv_iload_n hx hb d_MO_remove_0 rfl (lv_at hl 2 rfl) ?_
  refine lv_if_lt (tgt := 10) hx hb d_MO_remove_1 (by decide) (fun g1 => ?_) (fun g1 => ?_)
  · have e1 := a_rem_1 (a := (n, I, X, V)) (name := name) (i := i) (Or.inl g1)
    refine lv_iconst (v := (-1)) hx hb d_MO_remove_10 (by decide +kernel) ?_
    exact Rt (some (.int (-1))) (n, I, X, V) _ _ _ _ (rt_i d_MO_remove_11) (⟨by rw [e1], by rw [e1]⟩) hP hS
  · refine lv_iload_n hx hb d_MO_remove_4 rfl (lv_at hl 2 rfl) ?_
    refine lv_bipush (v := nI 7) hx hb d_MO_remove_5 (by decide +kernel) ?_
    refine lv_icmp_le (tgt := 12) hx hb d_MO_remove_7 (by decide) (fun g2 => ?_) (fun g2 => ?_)
    · have hi7 : ¬ (i < 0 ∨ 7 < i) := by
        rintro (q | q)
        · exact g1 q
        · exact absurd g2 (Int32.not_le.mpr q)
      refine lv_aload_n hx hb d_MO_remove_12 rfl (lv_at hl 0 rfl) ?_
      refine lv_lload_n hx hb d_MO_remove_13 rfl (lv_at hl 1 rfl) ?_
      refine lv_iload_n hx hb d_MO_remove_14 rfl (lv_at hl 2 rfl) ?_
      refine ct_callV (w1 := []) (wc := (wA am cL cI (n, I, X, V))) (w2 := []) (As := [.long name, .int i]) (rest := []) hx hb hml hown hts hk (c_MO_place l D am cL cI (n, I, X, V) h9 name i) 2 m_167 m_3 m_164 m_166 s_MO_place (by decide +kernel) ⟨Nat.le_of_ble_eq_true rfl, Nat.le_of_ble_eq_true rfl⟩ ⟨rfl, rfl⟩ rfl rfl rfl hl.1 rfl (Nat.le_of_ble_eq_true rfl) d_MO_remove_15 ⟨Nat.le_of_ble_eq_true rfl, Nat.le_of_ble_eq_true rfl⟩ hP hD hS (fun _ => rfl) (fun v u H locs hv hP hD hS => ?_)
      obtain ⟨rfl, rfl⟩ := hv
      obtain ⟨t, ht⟩ : ∃ t, t = a_pl (n, I, X, V) name i := ⟨_, rfl⟩
      have htn : t ≤ n := by rw [ht]; exact (a_pl_in (n, I, X, V) name i).1
      refine W.eq (g2 := F0 m 18 ls [.int (nI t)]) (by rw [ht]; rfl) ?_
      have hP : va_P D classes (wM am cL cI n I X V) H := hP
      have hD : va_D _ (wM am cL cI n I X V) := hD
      refine lv_istore (lv' := [(4, .int (nI t)), (0, .ref (am 0)), (1, .long name), (3, .int i)]) hx hb d_MO_remove_18 hl (by decide) rfl (fun ls hl => ?_)
      refine lv_aload_n hx hb d_MO_remove_20 rfl (lv_at hl 1 rfl) ?_
      refine lv_iload hx hb d_MO_remove_21 (lv_at hl 0 rfl) ?_
      refine lv_lload_n hx hb d_MO_remove_23 rfl (lv_at hl 2 rfl) ?_
      refine lv_iload_n hx hb d_MO_remove_24 rfl (lv_at hl 3 rfl) ?_
      refine ct_callV (w1 := []) (wc := (wA am cL cI (n, I, X, V))) (w2 := []) (As := [.int (nI t), .long name, .int i]) (rest := []) hx hb hml hown hts hk (c_MO_is l D am cL cI (n, I, X, V) h9 t (by omega) name i) 3 m_171 m_3 m_168 m_170 s_MO_is (by decide +kernel) ⟨Nat.le_of_ble_eq_true rfl, Nat.le_of_ble_eq_true rfl⟩ ⟨rfl, rfl⟩ rfl rfl rfl hl.1 rfl (Nat.le_of_ble_eq_true rfl) d_MO_remove_25 ⟨Nat.le_of_ble_eq_true rfl, Nat.le_of_ble_eq_true rfl⟩ hP hD hS (fun _ => rfl) (fun v u H locs hv hP hD hS => ?_)
      obtain ⟨⟨r, rfl, hr⟩, rfl⟩ := hv
      refine W.eq (g2 := F0 m 28 ls [.int r]) rfl ?_
      have hP : va_P D classes (wM am cL cI n I X V) H := hP
      have hD : va_D _ (wM am cL cI n I X V) := hD
      refine lv_if_eq (tgt := 40) hx hb d_MO_remove_28 (by decide) (fun g4 => ?_) (fun g4 => ?_)
      · have hna : ¬ a_has (n, I, X, V) name i := by
          rw [show a_has (n, I, X, V) name i ↔ (t < n ∧ I t = name ∧ X t = i) by rw [ht]]
          rcases hr with ⟨q, -⟩ | ⟨-, q⟩
          · rw [g4] at q; exact absurd q (by decide)
          · exact q
        have e1 := a_rem_2 hi7 hna
        refine lv_bipush (v := (-2)) hx hb d_MO_remove_40 (by decide +kernel) ?_
        exact Rt (some (.int (-2))) (n, I, X, V) _ _ _ _ (rt_i d_MO_remove_42) (⟨by rw [e1], by rw [e1]⟩) hP hS
      · have hna : t < n ∧ I t = name ∧ X t = i := by
          rcases hr with ⟨-, q⟩ | ⟨q, -⟩
          · exact q
          · exact absurd q g4
        have hn2 : a_has (n, I, X, V) name i := by
          rw [show a_has (n, I, X, V) name i ↔ (t < n ∧ I t = name ∧ X t = i) by rw [ht]]
          exact hna
        have e1 := a_rem_3 hi7 hn2
        rw [← ht] at e1
        refine lv_aload_n hx hb d_MO_remove_31 rfl (lv_at hl 1 rfl) ?_
        refine lv_iload hx hb d_MO_remove_32 (lv_at hl 0 rfl) ?_
        refine ct_callV (w1 := []) (wc := (wA am cL cI (n, I, X, V))) (w2 := []) (As := [.int (nI t)]) (rest := []) hx hb hml hown hts hk (c_MO_go l D am cL cI (n, I, X, V) h9 t hna.1) 1 m_184 m_3 m_181 m_183 s_MO_go (by decide +kernel) ⟨Nat.le_of_ble_eq_true rfl, Nat.le_of_ble_eq_true rfl⟩ ⟨rfl, rfl⟩ rfl rfl rfl hl.1 rfl (Nat.le_of_ble_eq_true rfl) d_MO_remove_34 ⟨Nat.le_of_ble_eq_true rfl, Nat.le_of_ble_eq_true rfl⟩ hP hD hS (fun _ => rfl) (fun v u H locs hv hP hD hS => ?_)
        obtain ⟨rfl, rfl⟩ := hv
        refine W.eq (g2 := F0 m 37 ls [.int (V t)]) rfl ?_
        refine lv_goto (tgt := 42) hx hb d_MO_remove_37 (by decide) ?_
        exact Rt (some (.int (V t))) (a_del (n, I, X, V) t) _ _ _ _ (rt_i d_MO_remove_42) (⟨by rw [e1], by rw [e1]⟩) hP hS
    · have e1 := a_rem_1 (a := (n, I, X, V)) (name := name) (i := i) (Or.inr (Int32.not_le.mp g2))
      refine lv_iconst (v := (-1)) hx hb d_MO_remove_10 (by decide +kernel) ?_
      exact Rt (some (.int (-1))) (n, I, X, V) _ _ _ _ (rt_i d_MO_remove_11) (⟨by rw [e1], by rw [e1]⟩) hP hS

abbrev rm_MO_get : Room := { frames := 1, cells := 0, slots := 0, locals := 24 }
set_option maxHeartbeats 4000000 in
set_option maxRecDepth 100000 in
/-- get -/
theorem c_MO_get (l : Launch) (D : va_G) (am : Nat → Nat) (cL cI : ClassId) (a : AS) (h9 : a.1 ≤ 900) (name : Int64) (i : Int32) : ct l y_MO_get b_MO_get 5 (some .int) rm_MO_get [.ref (am 0), .long name, .int i] D cL cI (wA am cL cI a) (fun v (u : AS) => v = some (.int (a_get a name i)) ∧ u = a) (wA am cL cI) := by
  obtain ⟨n, I, X, V⟩ := a
  have h9 : n ≤ 900 := h9
  refine ct_ofW (by decide) (Nat.le_of_ble_eq_true rfl) ?_
  intro p e s m below meth c Q ls hx hb hml hown hts hk hP hD hS hl Rt
  have hown : s.vm.findClass "NameTableModel" = some m.cls := hown
  have hl : lv_has ls 5 [(0, .ref (am 0)), (1, .long name), (3, .int i)] := hl
  have hP : va_P D classes (wM am cL cI n I X V) s.heap := hP
  have hD : va_D _ (wM am cL cI n I X V) := hD
  refine lv_iload_n hx hb d_MO_get_0 rfl (lv_at hl 2 rfl) ?_
  refine lv_if_lt (tgt := 10) hx hb d_MO_get_1 (by decide) (fun g1 => ?_) (fun g1 => ?_)
  · have e1 := a_get_1 (a := (n, I, X, V)) (name := name) (i := i) (Or.inl g1)
    refine lv_iconst (v := (-1)) hx hb d_MO_get_10 (by decide +kernel) ?_
    exact Rt (some (.int (-1))) (n, I, X, V) _ _ _ _ (rt_i d_MO_get_11) (⟨by rw [e1], rfl⟩) hP hS
  · refine lv_iload_n hx hb d_MO_get_4 rfl (lv_at hl 2 rfl) ?_
    refine lv_bipush (v := nI 7) hx hb d_MO_get_5 (by decide +kernel) ?_
    refine lv_icmp_le (tgt := 12) hx hb d_MO_get_7 (by decide) (fun g2 => ?_) (fun g2 => ?_)
    · have hi7 : ¬ (i < 0 ∨ 7 < i) := by
        rintro (q | q)
        · exact g1 q
        · exact absurd g2 (Int32.not_le.mpr q)
      refine lv_aload_n hx hb d_MO_get_12 rfl (lv_at hl 0 rfl) ?_
      refine lv_lload_n hx hb d_MO_get_13 rfl (lv_at hl 1 rfl) ?_
      refine lv_iload_n hx hb d_MO_get_14 rfl (lv_at hl 2 rfl) ?_
      refine ct_callV (w1 := []) (wc := (wA am cL cI (n, I, X, V))) (w2 := []) (As := [.long name, .int i]) (rest := []) hx hb hml hown hts hk (c_MO_place l D am cL cI (n, I, X, V) h9 name i) 2 m_167 m_3 m_164 m_166 s_MO_place (by decide +kernel) ⟨Nat.le_of_ble_eq_true rfl, Nat.le_of_ble_eq_true rfl⟩ ⟨rfl, rfl⟩ rfl rfl rfl hl.1 rfl (Nat.le_of_ble_eq_true rfl) d_MO_get_15 ⟨Nat.le_of_ble_eq_true rfl, Nat.le_of_ble_eq_true rfl⟩ hP hD hS (fun _ => rfl) (fun v u H locs hv hP hD hS => ?_)
      obtain ⟨rfl, rfl⟩ := hv
      obtain ⟨t, ht⟩ : ∃ t, t = a_pl (n, I, X, V) name i := ⟨_, rfl⟩
      have htn : t ≤ n := by rw [ht]; exact (a_pl_in (n, I, X, V) name i).1
      refine W.eq (g2 := F0 m 18 ls [.int (nI t)]) (by rw [ht]; rfl) ?_
      have hP : va_P D classes (wM am cL cI n I X V) H := hP
      have hD : va_D _ (wM am cL cI n I X V) := hD
      refine lv_istore (lv' := [(4, .int (nI t)), (0, .ref (am 0)), (1, .long name), (3, .int i)]) hx hb d_MO_get_18 hl (by decide) rfl (fun ls hl => ?_)
      refine lv_aload_n hx hb d_MO_get_20 rfl (lv_at hl 1 rfl) ?_
      refine lv_iload hx hb d_MO_get_21 (lv_at hl 0 rfl) ?_
      refine lv_lload_n hx hb d_MO_get_23 rfl (lv_at hl 2 rfl) ?_
      refine lv_iload_n hx hb d_MO_get_24 rfl (lv_at hl 3 rfl) ?_
      refine ct_callV (w1 := []) (wc := (wA am cL cI (n, I, X, V))) (w2 := []) (As := [.int (nI t), .long name, .int i]) (rest := []) hx hb hml hown hts hk (c_MO_is l D am cL cI (n, I, X, V) h9 t (by omega) name i) 3 m_171 m_3 m_168 m_170 s_MO_is (by decide +kernel) ⟨Nat.le_of_ble_eq_true rfl, Nat.le_of_ble_eq_true rfl⟩ ⟨rfl, rfl⟩ rfl rfl rfl hl.1 rfl (Nat.le_of_ble_eq_true rfl) d_MO_get_25 ⟨Nat.le_of_ble_eq_true rfl, Nat.le_of_ble_eq_true rfl⟩ hP hD hS (fun _ => rfl) (fun v u H locs hv hP hD hS => ?_)
      obtain ⟨⟨r, rfl, hr⟩, rfl⟩ := hv
      refine W.eq (g2 := F0 m 28 ls [.int r]) rfl ?_
      have hP : va_P D classes (wM am cL cI n I X V) H := hP
      have hD : va_D _ (wM am cL cI n I X V) := hD
      refine lv_if_eq (tgt := 41) hx hb d_MO_get_28 (by decide) (fun g4 => ?_) (fun g4 => ?_)
      · have hna : ¬ a_has (n, I, X, V) name i := by
          rw [show a_has (n, I, X, V) name i ↔ (t < n ∧ I t = name ∧ X t = i) by rw [ht]]
          rcases hr with ⟨q, -⟩ | ⟨-, q⟩
          · rw [g4] at q; exact absurd q (by decide)
          · exact q
        have e1 := a_get_2 hi7 hna
        refine lv_bipush (v := (-2)) hx hb d_MO_get_41 (by decide +kernel) ?_
        exact Rt (some (.int (-2))) (n, I, X, V) _ _ _ _ (rt_i d_MO_get_43) (⟨by rw [e1], rfl⟩) hP hS
      · have hna : t < n ∧ I t = name ∧ X t = i := by
          rcases hr with ⟨-, q⟩ | ⟨q, -⟩
          · exact q
          · exact absurd q g4
        have hn2 : a_has (n, I, X, V) name i := by
          rw [show a_has (n, I, X, V) name i ↔ (t < n ∧ I t = name ∧ X t = i) by rw [ht]]
          exact hna
        have e1 := a_get_3 hi7 hn2
        rw [← ht] at e1
        refine lv_aload_n hx hb d_MO_get_31 rfl (lv_at hl 1 rfl) ?_
        refine va_get (D := D) (ci := 2) (v := .ref (am 3)) (C := R_MO) (T := F_MO) (N := 4) hx hb hts in_MO hown hk.1 hP 0 rfl rfl 2 (by decide) (hts _ m_149) (fun _ h9 => h9) rfl d_MO_get_32 ?_
        refine lv_iload hx hb d_MO_get_35 (lv_at hl 0 rfl) ?_
        refine xi_ald hx hb hk.1 hP 3 1 rfl rfl t (V t) (rfl) (by omega) (by decide) (rfl) d_MO_get_37 ?_
        refine lv_goto (tgt := 43) hx hb d_MO_get_38 (by decide) ?_
        exact Rt (some (.int (V t))) (n, I, X, V) _ _ _ _ (rt_i d_MO_get_43) (⟨by rw [e1], rfl⟩) hP hS
    · have e1 := a_get_1 (a := (n, I, X, V)) (name := name) (i := i) (Or.inr (Int32.not_le.mp g2))
      refine lv_iconst (v := (-1)) hx hb d_MO_get_10 (by decide +kernel) ?_
      exact Rt (some (.int (-1))) (n, I, X, V) _ _ _ _ (rt_i d_MO_get_11) (⟨by rw [e1], rfl⟩) hP hS

abbrev rm_MO_take : Room := { frames := 1, cells := 0, slots := 0, locals := 23 }
set_option maxHeartbeats 4000000 in
set_option maxRecDepth 100000 in
/-- take -/
theorem c_MO_take (l : Launch) (D : va_G) (am : Nat → Nat) (cL cI : ClassId) (a : AS) (h9 : a.1 ≤ 900) (x : Int32) : ct l y_MO_take b_MO_take 2 (some .int) rm_MO_take [.ref (am 0), .int x] D cL cI (wA am cL cI a) (fun v (u : AS) => v = some (.int (a_take a x).1) ∧ u = (a_take a x).2) (wA am cL cI) := by
  obtain ⟨n, I, X, V⟩ := a
  have h9 : n ≤ 900 := h9
  refine ct_ofW (by decide) (Nat.le_of_ble_eq_true rfl) ?_
  intro p e s m below meth c Q ls hx hb hml hown hts hk hP hD hS hl Rt
  have hown : s.vm.findClass "NameTableModel" = some m.cls := hown
  have hl : lv_has ls 2 [(0, .ref (am 0)), (1, .int x)] := hl
  have hP : va_P D classes (wM am cL cI n I X V) s.heap := hP
  have hD : va_D _ (wM am cL cI n I X V) := hD
  refine lv_iload_n hx hb d_MO_take_0 rfl (lv_at hl 1 rfl) ?_
  refine lv_if_lt (tgt := 12) hx hb d_MO_take_1 (by decide) (fun g1 => ?_) (fun g1 => ?_)
  · have e1 := a_take_1 (a := (n, I, X, V)) (Or.inl g1)
    refine lv_bipush (v := (-2)) hx hb d_MO_take_12 (by decide +kernel) ?_
    refine lv_goto (tgt := 22) hx hb d_MO_take_14 (by decide) ?_
    exact Rt (some (.int (-2))) (n, I, X, V) _ _ _ _ (rt_i d_MO_take_22) (⟨by rw [e1], by rw [e1]⟩) hP hS
  · obtain ⟨j, hj31, hj⟩ := nI_of g1
    subst hj
    refine lv_iload_n hx hb d_MO_take_4 rfl (lv_at hl 1 rfl) ?_
    refine lv_aload_n hx hb d_MO_take_5 rfl (lv_at hl 0 rfl) ?_
    refine va_get (D := D) (ci := 2) (v := .int (nI n)) (C := R_MO) (T := F_MO) (N := 4) hx hb hts in_MO hown hk.1 hP 0 rfl rfl 3 (by decide) (hts _ m_150) (fun _ h9 => h9) rfl d_MO_take_6 ?_
    refine lv_icmp_lt (tgt := 17) hx hb d_MO_take_9 (by decide) (fun g2 => ?_) (fun g2 => ?_)
    · have g2 := (nI_ltI (by omega) (by omega)).mp g2
      have e1 := a_take_2 (a := (n, I, X, V)) h9 g2
      refine lv_aload_n hx hb d_MO_take_17 rfl (lv_at hl 0 rfl) ?_
      refine lv_iload_n hx hb d_MO_take_18 rfl (lv_at hl 1 rfl) ?_
      refine ct_callV (w1 := []) (wc := (wA am cL cI (n, I, X, V))) (w2 := []) (As := [.int (nI j)]) (rest := []) hx hb hml hown hts hk (c_MO_go l D am cL cI (n, I, X, V) h9 j g2) 1 m_184 m_3 m_181 m_183 s_MO_go (by decide +kernel) ⟨Nat.le_of_ble_eq_true rfl, Nat.le_of_ble_eq_true rfl⟩ ⟨rfl, rfl⟩ rfl rfl rfl hl.1 rfl (Nat.le_of_ble_eq_true rfl) d_MO_take_19 ⟨Nat.le_of_ble_eq_true rfl, Nat.le_of_ble_eq_true rfl⟩ hP hD hS (fun _ => rfl) (fun v u H locs hv hP hD hS => ?_)
      obtain ⟨rfl, rfl⟩ := hv
      refine W.eq (g2 := F0 m 22 ls [.int (V j)]) rfl ?_
      exact Rt (some (.int (V j))) (a_del (n, I, X, V) j) _ _ _ _ (rt_i d_MO_take_22) (⟨by rw [e1], by rw [e1]⟩) hP hS
    · have e1 := a_take_1 (a := (n, I, X, V)) (Or.inr (Int32.not_lt.mp g2))
      refine lv_bipush (v := (-2)) hx hb d_MO_take_12 (by decide +kernel) ?_
      refine lv_goto (tgt := 22) hx hb d_MO_take_14 (by decide) ?_
      exact Rt (some (.int (-2))) (n, I, X, V) _ _ _ _ (rt_i d_MO_take_22) (⟨by rw [e1], by rw [e1]⟩) hP hS

abbrev rm_MO_name : Room := { frames := 0, cells := 0, slots := 0, locals := 0 }
set_option maxHeartbeats 4000000 in
set_option maxRecDepth 100000 in
/-- name -/
theorem c_MO_name (l : Launch) (D : va_G) (am : Nat → Nat) (cL cI : ClassId) (a : AS) (h9 : a.1 ≤ 900) (x : Int32) : ct l y_MO_name b_MO_name 2 (some .long) rm_MO_name [.ref (am 0), .int x] D cL cI (wA am cL cI a) (fun v (u : AS) => v = some (.long (a_name a x)) ∧ u = a) (wA am cL cI) := by
  obtain ⟨n, I, X, V⟩ := a
  have h9 : n ≤ 900 := h9
  refine ct_ofW (by decide) (Nat.le_of_ble_eq_true rfl) ?_
  intro p e s m below meth c Q ls hx hb hml hown hts hk hP hD hS hl Rt
  have hown : s.vm.findClass "NameTableModel" = some m.cls := hown
  have hl : lv_has ls 2 [(0, .ref (am 0)), (1, .int x)] := hl
  have hP : va_P D classes (wM am cL cI n I X V) s.heap := hP
  have hD : va_D _ (wM am cL cI n I X V) := hD
  refine lv_iload_n hx hb d_MO_name_0 rfl (lv_at hl 1 rfl) ?_
  refine lv_if_lt (tgt := 12) hx hb d_MO_name_1 (by decide) (fun g1 => ?_) (fun g1 => ?_)
  · have e1 := a_name_1 (a := (n, I, X, V)) (Or.inl g1)
    refine lv_lconst (v := 0) hx hb d_MO_name_12 (by decide +kernel) ?_
    refine lv_goto (tgt := 22) hx hb d_MO_name_13 (by decide) ?_
    exact Rt (some (.long 0)) (n, I, X, V) _ _ _ _ (rt_l d_MO_name_22) (⟨by rw [e1], rfl⟩) hP hS
  · obtain ⟨j, hj31, hj⟩ := nI_of g1
    subst hj
    refine lv_iload_n hx hb d_MO_name_4 rfl (lv_at hl 1 rfl) ?_
    refine lv_aload_n hx hb d_MO_name_5 rfl (lv_at hl 0 rfl) ?_
    refine va_get (D := D) (ci := 2) (v := .int (nI n)) (C := R_MO) (T := F_MO) (N := 4) hx hb hts in_MO hown hk.1 hP 0 rfl rfl 3 (by decide) (hts _ m_150) (fun _ h9 => h9) rfl d_MO_name_6 ?_
    refine lv_icmp_lt (tgt := 16) hx hb d_MO_name_9 (by decide) (fun g2 => ?_) (fun g2 => ?_)
    · have g2 := (nI_ltI (by omega) (by omega)).mp g2
      have e1 := a_name_2 (a := (n, I, X, V)) h9 g2
      refine lv_aload_n hx hb d_MO_name_16 rfl (lv_at hl 0 rfl) ?_
      refine va_get (D := D) (ci := 2) (v := .ref (am 1)) (C := R_MO) (T := F_MO) (N := 4) hx hb hts in_MO hown hk.1 hP 0 rfl rfl 0 (by decide) (hts _ m_147) (fun _ h9 => h9) rfl d_MO_name_17 ?_
      refine lv_iload_n hx hb d_MO_name_20 rfl (lv_at hl 1 rfl) ?_
      refine xl_ald hx hb hk.1 hP 1 0 rfl rfl j (I j) (rfl) (by omega) (by decide) (rfl) d_MO_name_21 ?_
      exact Rt (some (.long (I j))) (n, I, X, V) _ _ _ _ (rt_l d_MO_name_22) (⟨by rw [e1], rfl⟩) hP hS
    · have e1 := a_name_1 (a := (n, I, X, V)) (Or.inr (Int32.not_lt.mp g2))
      refine lv_lconst (v := 0) hx hb d_MO_name_12 (by decide +kernel) ?_
      refine lv_goto (tgt := 22) hx hb d_MO_name_13 (by decide) ?_
      exact Rt (some (.long 0)) (n, I, X, V) _ _ _ _ (rt_l d_MO_name_22) (⟨by rw [e1], rfl⟩) hP hS

abbrev rm_MO_index : Room := { frames := 0, cells := 0, slots := 0, locals := 0 }
set_option maxHeartbeats 4000000 in
set_option maxRecDepth 100000 in
/-- index -/
theorem c_MO_index (l : Launch) (D : va_G) (am : Nat → Nat) (cL cI : ClassId) (a : AS) (h9 : a.1 ≤ 900) (x : Int32) : ct l y_MO_index b_MO_index 2 (some .int) rm_MO_index [.ref (am 0), .int x] D cL cI (wA am cL cI a) (fun v (u : AS) => v = some (.int (a_index a x)) ∧ u = a) (wA am cL cI) := by
  obtain ⟨n, I, X, V⟩ := a
  have h9 : n ≤ 900 := h9
  refine ct_ofW (by decide) (Nat.le_of_ble_eq_true rfl) ?_
  intro p e s m below meth c Q ls hx hb hml hown hts hk hP hD hS hl Rt
  have hown : s.vm.findClass "NameTableModel" = some m.cls := hown
  have hl : lv_has ls 2 [(0, .ref (am 0)), (1, .int x)] := hl
  have hP : va_P D classes (wM am cL cI n I X V) s.heap := hP
  have hD : va_D _ (wM am cL cI n I X V) := hD
  refine lv_iload_n hx hb d_MO_index_0 rfl (lv_at hl 1 rfl) ?_
  refine lv_if_lt (tgt := 12) hx hb d_MO_index_1 (by decide) (fun g1 => ?_) (fun g1 => ?_)
  · have e1 := a_index_1 (a := (n, I, X, V)) (Or.inl g1)
    refine lv_bipush (v := (-2)) hx hb d_MO_index_12 (by decide +kernel) ?_
    refine lv_goto (tgt := 23) hx hb d_MO_index_14 (by decide) ?_
    exact Rt (some (.int (-2))) (n, I, X, V) _ _ _ _ (rt_i d_MO_index_23) (⟨by rw [e1], rfl⟩) hP hS
  · obtain ⟨j, hj31, hj⟩ := nI_of g1
    subst hj
    refine lv_iload_n hx hb d_MO_index_4 rfl (lv_at hl 1 rfl) ?_
    refine lv_aload_n hx hb d_MO_index_5 rfl (lv_at hl 0 rfl) ?_
    refine va_get (D := D) (ci := 2) (v := .int (nI n)) (C := R_MO) (T := F_MO) (N := 4) hx hb hts in_MO hown hk.1 hP 0 rfl rfl 3 (by decide) (hts _ m_150) (fun _ h9 => h9) rfl d_MO_index_6 ?_
    refine lv_icmp_lt (tgt := 17) hx hb d_MO_index_9 (by decide) (fun g2 => ?_) (fun g2 => ?_)
    · have g2 := (nI_ltI (by omega) (by omega)).mp g2
      have e1 := a_index_2 (a := (n, I, X, V)) h9 g2
      refine lv_aload_n hx hb d_MO_index_17 rfl (lv_at hl 0 rfl) ?_
      refine va_get (D := D) (ci := 2) (v := .ref (am 2)) (C := R_MO) (T := F_MO) (N := 4) hx hb hts in_MO hown hk.1 hP 0 rfl rfl 1 (by decide) (hts _ m_148) (fun _ h9 => h9) rfl d_MO_index_18 ?_
      refine lv_iload_n hx hb d_MO_index_21 rfl (lv_at hl 1 rfl) ?_
      refine xi_ald hx hb hk.1 hP 2 1 rfl rfl j (X j) (rfl) (by omega) (by decide) (rfl) d_MO_index_22 ?_
      exact Rt (some (.int (X j))) (n, I, X, V) _ _ _ _ (rt_i d_MO_index_23) (⟨by rw [e1], rfl⟩) hP hS
    · have e1 := a_index_1 (a := (n, I, X, V)) (Or.inr (Int32.not_lt.mp g2))
      refine lv_bipush (v := (-2)) hx hb d_MO_index_12 (by decide +kernel) ?_
      refine lv_goto (tgt := 23) hx hb d_MO_index_14 (by decide) ?_
      exact Rt (some (.int (-2))) (n, I, X, V) _ _ _ _ (rt_i d_MO_index_23) (⟨by rw [e1], rfl⟩) hP hS

abbrev rm_MO_many : Room := { frames := 0, cells := 0, slots := 0, locals := 0 }
set_option maxHeartbeats 4000000 in
set_option maxRecDepth 100000 in
/-- many -/
theorem c_MO_many (l : Launch) (D : va_G) (am : Nat → Nat) (cL cI : ClassId) (a : AS) (h9 : a.1 ≤ 900)  : ct l y_MO_many b_MO_many 1 (some .int) rm_MO_many [.ref (am 0)] D cL cI (wA am cL cI a) (fun v (u : AS) => v = some (.int (nI a.1)) ∧ u = a) (wA am cL cI) := by
  obtain ⟨n, I, X, V⟩ := a
  have h9 : n ≤ 900 := h9
  refine ct_ofW (by decide) (Nat.le_of_ble_eq_true rfl) ?_
  intro p e s m below meth c Q ls hx hb hml hown hts hk hP hD hS hl Rt
  have hown : s.vm.findClass "NameTableModel" = some m.cls := hown
  have hl : lv_has ls 1 [(0, .ref (am 0))] := hl
  have hP : va_P D classes (wM am cL cI n I X V) s.heap := hP
  have hD : va_D _ (wM am cL cI n I X V) := hD
  refine lv_aload_n hx hb d_MO_many_0 rfl (lv_at hl 0 rfl) ?_
  refine va_get (D := D) (ci := 2) (v := .int (nI n)) (C := R_MO) (T := F_MO) (N := 4) hx hb hts in_MO hown hk.1 hP 0 rfl rfl 3 (by decide) (hts _ m_150) (fun _ h9 => h9) rfl d_MO_many_1 ?_
  exact Rt (some (.int (nI n))) (n, I, X, V) _ _ _ _ (rt_i d_MO_many_4) (⟨rfl, rfl⟩) hP hS

abbrev rm_MO_value : Room := { frames := 0, cells := 0, slots := 0, locals := 0 }
set_option maxHeartbeats 4000000 in
set_option maxRecDepth 100000 in
/-- value -/
theorem c_MO_value (l : Launch) (D : va_G) (am : Nat → Nat) (cL cI : ClassId) (a : AS) (h9 : a.1 ≤ 900)  : ct l y_MO_value b_MO_value 4 (some .long) rm_MO_value [.ref (am 0)] D cL cI (wA am cL cI a) (fun v (u : AS) => v = some (.long (a_sum a.2.2.2 a.1)) ∧ u = a) (wA am cL cI) := by
  obtain ⟨n, I, X, V⟩ := a
  have h9 : n ≤ 900 := h9
  refine ct_ofW (by decide) (Nat.le_of_ble_eq_true rfl) ?_
  intro p e s m below meth c Q ls hx hb hml hown hts hk hP hD hS hl Rt
  have hown : s.vm.findClass "NameTableModel" = some m.cls := hown
  have hl : lv_has ls 4 [(0, .ref (am 0))] := hl
  have hP : va_P D classes (wM am cL cI n I X V) s.heap := hP
  have hD : va_D _ (wM am cL cI n I X V) := hD
  refine lv_lconst (v := 0) hx hb d_MO_value_0 (by decide +kernel) ?_
  refine lv_lstore_n (lv' := [(1, .long 0), (0, .ref (am 0))]) hx hb d_MO_value_1 rfl hl (by decide) rfl (fun ls hl => ?_)
  refine lv_iconst (v := nI 0) hx hb d_MO_value_2 (by decide +kernel) ?_
  refine lv_istore_n (lv' := [(3, .int (nI 0)), (1, .long 0), (0, .ref (am 0))]) hx hb d_MO_value_3 rfl hl (by decide) rfl (fun ls hl => ?_)
  have hl := lv_sub hl (l' := [(0, .ref (am 0)), (1, .long 0), (3, .int (nI 0))]) [2, 1, 0] rfl
  have loop : ∀ (d k : Nat) (ls : Array Slot) (H : Heap) (locs : List Loc), n - k = d → k ≤ n → lv_has ls 4 [(0, .ref (am 0)), (1, .long (a_sum V k)), (3, .int (nI k))] → va_P D classes (wM am cL cI n I X V) H → va_D (ad_ (wA am cL cI (n, I, X, V))) (wM am cL cI n I X V) → va_S (ad_ (wA am cL cI (n, I, X, V))) s.heap H locs → W p l e rm_MO_value s m (List.toArray [.ref (am 0)]) below meth c H locs 0 0 Q (F0 m 4 ls []) := by
    intro d
    induction d with
    | zero =>
      intro k ls H locs hd hkn hl hP hD hS
      have hkn : k = n := by omega
      refine lv_iload_n hx hb d_MO_value_4 rfl (lv_at hl 2 rfl) ?_
      refine lv_aload_n hx hb d_MO_value_5 rfl (lv_at hl 0 rfl) ?_
      refine va_get (D := D) (ci := 2) (v := .int (nI n)) (C := R_MO) (T := F_MO) (N := 4) hx hb hts in_MO hown hk.1 hP 0 rfl rfl 3 (by decide) (hts _ m_150) (fun _ h9 => h9) rfl d_MO_value_6 ?_
      refine lv_icmp_ge (tgt := 28) hx hb d_MO_value_9 (by decide) (fun g1 => ?_) (fun g1 => ?_)
      · refine lv_lload_n hx hb d_MO_value_28 rfl (lv_at hl 1 rfl) ?_
        exact Rt (some (.long (a_sum V k))) (n, I, X, V) _ _ _ _ (rt_l d_MO_value_29) (⟨by rw [hkn], rfl⟩) hP hS
      · exact absurd (nI_le (by omega) (by omega)) g1
    | succ d ih =>
      intro k ls H locs hd hkn hl hP hD hS
      refine lv_iload_n hx hb d_MO_value_4 rfl (lv_at hl 2 rfl) ?_
      refine lv_aload_n hx hb d_MO_value_5 rfl (lv_at hl 0 rfl) ?_
      refine va_get (D := D) (ci := 2) (v := .int (nI n)) (C := R_MO) (T := F_MO) (N := 4) hx hb hts in_MO hown hk.1 hP 0 rfl rfl 3 (by decide) (hts _ m_150) (fun _ h9 => h9) rfl d_MO_value_6 ?_
      refine lv_icmp_ge (tgt := 28) hx hb d_MO_value_9 (by decide) (fun g1 => ?_) (fun g1 => ?_)
      · exact absurd g1 (nI_ge (by omega) (by omega))
      · refine lv_lload_n hx hb d_MO_value_12 rfl (lv_at hl 1 rfl) ?_
        refine lv_aload_n hx hb d_MO_value_13 rfl (lv_at hl 0 rfl) ?_
        refine va_get (D := D) (ci := 2) (v := .ref (am 3)) (C := R_MO) (T := F_MO) (N := 4) hx hb hts in_MO hown hk.1 hP 0 rfl rfl 2 (by decide) (hts _ m_149) (fun _ h9 => h9) rfl d_MO_value_14 ?_
        refine lv_iload_n hx hb d_MO_value_17 rfl (lv_at hl 2 rfl) ?_
        refine xi_ald hx hb hk.1 hP 3 1 rfl rfl k (V k) (rfl) (by omega) (by decide) (rfl) d_MO_value_18 ?_
        refine lv_i2l (v := (V k).toInt64) hx hb d_MO_value_19 rfl ?_
        refine lv_ladd hx hb d_MO_value_20 ?_
        refine lv_lstore_n (lv' := [(1, .long (a_sum V (k + 1))), (0, .ref (am 0)), (3, .int (nI k))]) hx hb d_MO_value_21 rfl hl (by decide) rfl (fun ls hl => ?_)
        refine lv_iinc (k := 2) (v := nI (k + 1)) (lv' := [(3, .int (nI (k + 1))), (1, .long (a_sum V (k + 1))), (0, .ref (am 0))]) hx hb d_MO_value_22 hl rfl (nv_inc _) (by decide) rfl (fun ls hl => ?_)
        refine lv_goto (tgt := 4) hx hb d_MO_value_25 (by decide) ?_
        have hl := lv_sub hl (l' := [(0, .ref (am 0)), (1, .long (a_sum V (k + 1))), (3, .int (nI (k + 1)))]) [2, 1, 0] rfl
        exact ih (k + 1) ls H locs (by omega) (by omega) hl hP hD hS
  exact loop n 0 ls _ _ rfl (Nat.zero_le _) hl hP hD hS

abbrev rm_MO_some : Room := { frames := 2, cells := 0, slots := 0, locals := 50 }
set_option maxHeartbeats 4000000 in
set_option maxRecDepth 100000 in
/-- some -/
theorem c_MO_some (l : Launch) (D : va_G) (am : Nat → Nat) (cL cI : ClassId) (a : AS) (h9 : a.1 ≤ 900) (name step : Int64) (n0 v0 : Int32) : ct l y_MO_some b_MO_some 9 (some .int) rm_MO_some [.ref (am 0), .long name, .long step, .int n0, .int v0] D cL cI (wA am cL cI a) (fun v (u : AS) => v = some (.int (a_some a name step n0 v0).1) ∧ u = (a_some a name step n0 v0).2) (wA am cL cI) := by
  obtain ⟨n, I, X, V⟩ := a
  have h9 : n ≤ 900 := h9
  refine ct_ofW (by decide) (Nat.le_of_ble_eq_true rfl) ?_
  intro p e s m below meth c Q ls hx hb hml hown hts hk hP hD hS hl Rt
  have hown : s.vm.findClass "NameTableModel" = some m.cls := hown
  have hl : lv_has ls 9 [(0, .ref (am 0)), (1, .long name), (3, .long step), (5, .int n0), (6, .int v0)] := hl
  have hP : va_P D classes (wM am cL cI n I X V) s.heap := hP
  have hD : va_D _ (wM am cL cI n I X V) := hD
  refine lv_iload hx hb d_MO_some_0 (lv_at hl 3 rfl) ?_
  refine lv_iconst (v := nI 1) hx hb d_MO_some_2 (by decide +kernel) ?_
  refine lv_icmp_lt (tgt := 18) hx hb d_MO_some_3 (by decide) (fun g1 => ?_) (fun g1 => ?_)
  · have e1 := a_some_1 (a := (n, I, X, V)) (name := name) (step := step) (n := n0) (v := v0) (Or.inl g1)
    refine lv_iconst (v := (-1)) hx hb d_MO_some_18 (by decide +kernel) ?_
    exact Rt (some (.int (-1))) (n, I, X, V) _ _ _ _ (rt_i d_MO_some_19) (⟨by rw [e1], by rw [e1]⟩) hP hS
  · refine lv_iload hx hb d_MO_some_6 (lv_at hl 3 rfl) ?_
    refine lv_bipush (v := nI 100) hx hb d_MO_some_8 (by decide +kernel) ?_
    refine lv_icmp_gt (tgt := 18) hx hb d_MO_some_10 (by decide) (fun g2 => ?_) (fun g2 => ?_)
    · have e1 := a_some_1 (a := (n, I, X, V)) (name := name) (step := step) (n := n0) (v := v0) (Or.inr (Or.inl g2))
      refine lv_iconst (v := (-1)) hx hb d_MO_some_18 (by decide +kernel) ?_
      exact Rt (some (.int (-1))) (n, I, X, V) _ _ _ _ (rt_i d_MO_some_19) (⟨by rw [e1], by rw [e1]⟩) hP hS
    · refine lv_iload hx hb d_MO_some_13 (lv_at hl 4 rfl) ?_
      refine lv_if_ge (tgt := 20) hx hb d_MO_some_15 (by decide) (fun g3 => ?_) (fun g3 => ?_)
      · have hi7 : ¬ (n0 < 1 ∨ 100 < n0 ∨ v0 < 0) := by
          rintro (q | q | q)
          · exact g1 q
          · exact g2 q
          · exact absurd g3 (Int32.not_le.mpr q)
        obtain ⟨N, hN9, hN⟩ := nv_i100 ⟨Int32.not_lt.mp g1, Int32.not_lt.mp g2⟩
        have e1 := a_some_2 (a := (n, I, X, V)) (name := name) (step := step) hN hN9 hi7
        refine lv_iconst (v := nI 0) hx hb d_MO_some_20 (by decide +kernel) ?_
        refine lv_istore (lv' := [(7, .int (nI 0)), (0, .ref (am 0)), (1, .long name), (3, .long step), (5, .int n0), (6, .int v0)]) hx hb d_MO_some_21 hl (by decide) rfl (fun ls hl => ?_)
        refine lv_iconst (v := nI 0) hx hb d_MO_some_23 (by decide +kernel) ?_
        refine lv_istore (lv' := [(8, .int (nI 0)), (7, .int (nI 0)), (0, .ref (am 0)), (1, .long name), (3, .long step), (5, .int n0), (6, .int v0)]) hx hb d_MO_some_24 hl (by decide) rfl (fun ls hl => ?_)
        have hl := lv_sub hl (l' := [(0, .ref (am 0)), (1, .long name), (3, .long step), (5, .int n0), (6, .int v0), (7, .int (nI 0)), (8, .int (nI 0))]) [2, 3, 4, 5, 6, 1, 0] rfl
        have loop : ∀ (d k did : Nat) (a1 : AS) (ls : Array Slot) (H : Heap) (locs : List Loc), N - k = d → k ≤ N → a1.1 ≤ 900 → a_smf name step v0 (N - k) k did a1 = a_smf name step v0 N 0 0 (n, I, X, V) → lv_has ls 9 [(0, .ref (am 0)), (1, .long name), (3, .long step), (5, .int n0), (6, .int v0), (7, .int (nI did)), (8, .int (nI k))] → va_P D classes (wA am cL cI a1) H → va_D (ad_ (wA am cL cI (n, I, X, V))) (wA am cL cI a1) → va_S (ad_ (wA am cL cI (n, I, X, V))) s.heap H locs → W p l e rm_MO_some s m (List.toArray [.ref (am 0), .long name, .long step, .int n0, .int v0]) below meth c H locs 0 0 Q (F0 m 26 ls []) := by
          intro d
          induction d with
          | zero =>
            intro k did a1 ls H locs hd hkN h91 hsm hl hP hD hS
            have hkN : k = N := by omega
            subst hkN
            rw [Nat.sub_self] at hsm
            refine lv_iload hx hb d_MO_some_26 (lv_at hl 6 rfl) ?_
            refine lv_iload hx hb d_MO_some_28 (lv_at hl 3 rfl) ?_
            refine lv_repi (nI k) (hN) ?_
            refine lv_icmp_ge (tgt := 63) hx hb d_MO_some_30 (by decide) (fun g4 => ?_) (fun g4 => ?_)
            · refine lv_iload hx hb d_MO_some_63 (lv_at hl 5 rfl) ?_
              exact Rt (some (.int (nI did))) a1 _ _ _ _ (rt_i d_MO_some_65) (⟨by rw [e1, ← hsm]; rfl, by rw [e1, ← hsm]; rfl⟩) hP hS
            · exact absurd (nI_le (Nat.le_refl _) (by omega)) g4
          | succ d ih =>
            intro k did a1 ls H locs hd hkN h91 hsm hl hP hD hS
            rw [show N - k = (N - (k + 1)) + 1 by omega] at hsm
            refine lv_iload hx hb d_MO_some_26 (lv_at hl 6 rfl) ?_
            refine lv_iload hx hb d_MO_some_28 (lv_at hl 3 rfl) ?_
            refine lv_repi (nI N) (hN) ?_
            refine lv_icmp_ge (tgt := 63) hx hb d_MO_some_30 (by decide) (fun g4 => ?_) (fun g4 => ?_)
            · exact absurd g4 (nI_ge (by omega) (by omega))
            · refine lv_aload_n hx hb d_MO_some_33 rfl (lv_at hl 0 rfl) ?_
              refine lv_lload_n hx hb d_MO_some_34 rfl (lv_at hl 1 rfl) ?_
              refine lv_iload hx hb d_MO_some_35 (lv_at hl 6 rfl) ?_
              refine lv_i2l (v := (nI k).toInt64) hx hb d_MO_some_37 rfl ?_
              refine lv_lload_n hx hb d_MO_some_38 rfl (lv_at hl 2 rfl) ?_
              refine lv_lmul hx hb d_MO_some_39 ?_
              refine lv_ladd hx hb d_MO_some_40 ?_
              refine lv_iload hx hb d_MO_some_41 (lv_at hl 6 rfl) ?_
              refine lv_bipush (v := nI 8) hx hb d_MO_some_43 (by decide +kernel) ?_
              refine lv_irem hx hb d_MO_some_45 (by decide +kernel) ?_
              refine lv_repi (nI (k % 8)) (pk_rem (by omega) (by decide) (by decide)) ?_
              refine lv_iload hx hb d_MO_some_46 (lv_at hl 4 rfl) ?_
              refine ct_callV (w1 := []) (wc := (wA am cL cI a1)) (w2 := []) (As := [.long (name + (((nI k).toInt64) * step)), .int (nI (k % 8)), .int v0]) (rest := []) hx hb hml hown hts hk (c_MO_add l D am cL cI a1 h91 (name + (nI k).toInt64 * step) (nI (k % 8)) v0) 3 m_163 m_3 m_176 m_161 m_162 (by decide +kernel) ⟨Nat.le_of_ble_eq_true rfl, Nat.le_of_ble_eq_true rfl⟩ ⟨rfl, rfl⟩ rfl rfl rfl hl.1 rfl (Nat.le_of_ble_eq_true rfl) d_MO_some_48 ⟨Nat.le_of_ble_eq_true rfl, Nat.le_of_ble_eq_true rfl⟩ hP hD hS (fun _ => rfl) (fun v u H locs hv hP hD hS => ?_)
              obtain ⟨rfl, hv⟩ := hv
              subst hv
              have h92 := a_add_le (name := name + (nI k).toInt64 * step) (i := nI (k % 8)) (v := v0) h91
              obtain ⟨A1, hA1⟩ : ∃ A1, A1 = a_add a1 (name + (nI k).toInt64 * step) (nI (k % 8)) v0 := ⟨_, rfl⟩
              rw [← hA1] at h92 hP hD
              refine W.eq (g2 := F0 m 51 ls [.int A1.1]) (by rw [hA1]; rfl) ?_
              have hsm2 : a_smf name step v0 (N - (k + 1)) (k + 1) (if 0 < A1.1 then did + 1 else did) A1.2 = a_smf name step v0 N 0 0 (n, I, X, V) := by rw [hA1]; exact hsm
              refine lv_if_le (tgt := 57) hx hb d_MO_some_51 (by decide) (fun g5 => ?_) (fun g5 => ?_)
              · rw [if_neg (Int32.not_lt.mpr g5)] at hsm2
                refine lv_iinc (k := 6) (v := nI (k + 1)) (lv' := [(8, .int (nI (k + 1))), (0, .ref (am 0)), (1, .long name), (3, .long step), (5, .int n0), (6, .int v0), (7, .int (nI did))]) hx hb d_MO_some_57 hl rfl (nv_inc _) (by decide) rfl (fun ls hl => ?_)
                refine lv_goto (tgt := 26) hx hb d_MO_some_60 (by decide) ?_
                have hl := lv_sub hl (l' := [(0, .ref (am 0)), (1, .long name), (3, .long step), (5, .int n0), (6, .int v0), (7, .int (nI did)), (8, .int (nI (k + 1)))]) [1, 2, 3, 4, 5, 6, 0] rfl
                exact ih (k + 1) did A1.2 ls H locs (by omega) (by omega) h92 hsm2 hl hP hD hS
              · rw [if_pos (Int32.not_le.mp g5)] at hsm2
                refine lv_iinc (k := 5) (v := nI (did + 1)) (lv' := [(7, .int (nI (did + 1))), (0, .ref (am 0)), (1, .long name), (3, .long step), (5, .int n0), (6, .int v0), (8, .int (nI k))]) hx hb d_MO_some_54 hl rfl (nv_inc _) (by decide) rfl (fun ls hl => ?_)
                refine lv_iinc (k := 6) (v := nI (k + 1)) (lv' := [(8, .int (nI (k + 1))), (7, .int (nI (did + 1))), (0, .ref (am 0)), (1, .long name), (3, .long step), (5, .int n0), (6, .int v0)]) hx hb d_MO_some_57 hl rfl (nv_inc _) (by decide) rfl (fun ls hl => ?_)
                refine lv_goto (tgt := 26) hx hb d_MO_some_60 (by decide) ?_
                have hl := lv_sub hl (l' := [(0, .ref (am 0)), (1, .long name), (3, .long step), (5, .int n0), (6, .int v0), (7, .int (nI (did + 1))), (8, .int (nI (k + 1)))]) [2, 3, 4, 5, 6, 1, 0] rfl
                exact ih (k + 1) (did + 1) A1.2 ls H locs (by omega) (by omega) h92 hsm2 hl hP hD hS
        exact loop N 0 0 (n, I, X, V) ls _ _ rfl (Nat.zero_le _) h9 rfl hl hP hD hS
      · have e1 := a_some_1 (a := (n, I, X, V)) (name := name) (step := step) (n := n0) (v := v0) (Or.inr (Or.inr (Int32.not_le.mp g3)))
        refine lv_iconst (v := (-1)) hx hb d_MO_some_18 (by decide +kernel) ?_
        exact Rt (some (.int (-1))) (n, I, X, V) _ _ _ _ (rt_i d_MO_some_19) (⟨by rw [e1], by rw [e1]⟩) hP hS
end
section
/-! walks, 8: the constructors (printed by gen/g17.py) -/
theorem ci_eq {D : va_G} {tys : List (ClassId × FieldType)} {U : State} (hK : va_K D classes tys U) {i j : Nat} {c1 c2 : ClassId} (h1 : tys[i]? = some (c1, .int)) (h2 : tys[j]? = some (c2, .int)) : c2 = c1 := by
  have a : U.vm.findClass ("[" ++ FieldType.int.toString) = some c1 := (hK.2 i _ h1).2
  have b : U.vm.findClass ("[" ++ FieldType.int.toString) = some c2 := (hK.2 j _ h2).2
  exact Option.some.inj (b.symm.trans a)
theorem cl_eq {D : va_G} {tys : List (ClassId × FieldType)} {U : State} (hK : va_K D classes tys U) {i j : Nat} {c1 c2 : ClassId} (h1 : tys[i]? = some (c1, .long)) (h2 : tys[j]? = some (c2, .long)) : c2 = c1 := by
  have a : U.vm.findClass ("[" ++ FieldType.long.toString) = some c1 := (hK.2 i _ h1).2
  have b : U.vm.findClass ("[" ++ FieldType.long.toString) = some c2 := (hK.2 j _ h2).2
  exact Option.some.inj (b.symm.trans a)
/-- the free coins so far -/
def fz (z : Nat) : Nat → Nat := fun j => if j < z then 899 - j else 0
theorem fz_0 : fz 0 = fun _ => 0 := by
  funext j
  exact if_neg (Nat.not_lt_zero _)
theorem fz_st (z : Nat) : un (fz z) z (899 - z) = fz (z + 1) := by
  funext j
  unfold un fz
  by_cases h : j = z
  · rw [if_pos h, if_pos (by omega), h]
  · rw [if_neg h]
    by_cases h2 : j < z
    · rw [if_pos h2, if_pos (by omega)]
    · rw [if_neg h2, if_neg (by omega)]
theorem fz_end : fz 900 = fun k => 899 - k := by
  funext j
  unfold fz
  by_cases h : j < 900
  · rw [if_pos h]
  · rw [if_neg h]; omega
abbrev rm_CO_init : Room := { frames := 1, cells := 6, slots := 5524, locals := 12 }
set_option maxHeartbeats 4000000 in
set_option maxRecDepth 100000 in
/-- Coins(): six new arrays; all coins are free -/
theorem c_CO_init (l : Launch) (D : va_G) (h0 sz : Nat) : Met l y_CO_init (Cond.code y_CO_init b_CO_init 2 none :: tg) rm_CO_init (va_Pc [.ref h0] (fun U => U.heap.size = sz ∧ va_P D classes [(h0, .inr (1, [.null, .null, .null, .null, .int 0, .null, .int 0, .long 0, .null, .int 0]))] U.heap ∧ va_K D classes [] U ∧ va_D (fun _ => True) [(h0, .inr (1, [.null, .null, .null, .null, .int 0, .null, .int 0, .long 0, .null, .int 0]))])) (va_Qv (fun _ : Unit => True) (fun _ t => ∃ (ad : Nat → Nat) (cL cI : ClassId), ad 0 = h0 ∧ va_P D classes (wC ad cL cI (fun _ => 0) (fun _ => 0) (fun _ => 0) (fun k => 899 - k) 900 (fun _ => 0) 0 0 (fun _ => 0) 0) t.heap ∧ va_K D classes [(cL, .long), (cI, .int)] t ∧ va_D (va_A [(h0, .inr (1, [.null, .null, .null, .null, .int 0, .null, .int 0, .long 0, .null, .int 0]))] sz) (wC ad cL cI (fun _ => 0) (fun _ => 0) (fun _ => 0) (fun k => 899 - k) 900 (fun _ => 0) 0 0 (fun _ => 0) 0)) (va_A [(h0, .inr (1, [.null, .null, .null, .null, .int 0, .null, .int 0, .long 0, .null, .int 0]))] sz)) 6 5524 (va_A [(h0, .inr (1, [.null, .null, .null, .null, .int 0, .null, .int 0, .long 0, .null, .int 0]))] sz) := by
  refine Met.ofW (cc := b_CO_init) (maxL := 2) (ret := none) (by decide) rfl ?_
  intro p e s m args below meth c s₁ B hml hv
  obtain ⟨rfl, hsz, hP, hK, hD0⟩ := hv
  have hx := B.exec
  have hb := B.bytes
  have hr := B.returns
  have hts : ∀ w ∈ tg, w.before (List.toArray [.ref h0]) s = true := fun w hw => atoms_spec (ws := Cond.code y_CO_init b_CO_init 2 none :: tg) B.pre w (List.mem_cons_of_mem _ hw)
  have hown : s.vm.findClass "NameTable$Coins" = some m.cls := findClass_of_methodNamed B.named
  have hlocks := B.notSynchronized
  have hin : meth.name = "<init>" := (name_of_methodNamed B.named B.method).1
  subst hsz
  have hD := hD0.self (sz := s.heap.size)
  generalize hAe : va_A [(h0, .inr (1, [.null, .null, .null, .null, .int 0, .null, .int 0, .long 0, .null, .int 0]))] s.heap.size = A at hD ⊢
  have hA : ∀ q : Nat, s.heap.size ≤ q → A q := fun q h => by rw [← hAe]; exact Or.inr h
  have hS : va_S A s.heap s.heap [] := va_S.rf
  have hP : va_P D classes [(h0, .inr (1, [.null, .null, .null, .null, .int 0, .null, .int 0, .long 0, .null, .int 0]))] s.heap := hP
  have hl := lv_entry ([.ref h0]) (n := 2) (Nat.le_of_ble_eq_true rfl)
  rw [lg_entry_eq]
  generalize (lg_sl ([.ref h0]) ++ List.replicate (2 - (lg_sl ([.ref h0])).length) Slot.unset).toArray = ls at hl ⊢
  have hl : lv_has ls 2 [(0, .ref h0)] := hl
  refine lv_aload_n hx hb d_CO_init_0 rfl (lv_at hl 0 rfl) ?_
  refine W.objInit hx hb hown (hts _ m_17) (hts _ m_10) (hts _ m_11) rfl (by rw [hml]; exact hl.1) rfl d_CO_init_1 (Nat.le_of_ble_eq_true rfl) (Nat.le_of_ble_eq_true rfl) ?_
  refine W.eq (g2 := F0 m 4 ls []) rfl ?_
  refine lv_aload_n hx hb d_CO_init_4 rfl (lv_at hl 0 rfl) ?_
  refine lv_sipush (v := 900) hx hb d_CO_init_5 (by decide +kernel) ?_
  refine va_newa (atype := .long) (ty := .long) (a0 := (900, .inr (.inl (fun _ => 0)))) (N' := 900) hx hb (hts _ m_54) rfl hK hP hD hS hA (fun _ => rfl) (by decide) (by decide +kernel) (by decide +kernel) (Nat.le_of_ble_eq_true rfl) (Nat.le_of_ble_eq_true rfl) d_CO_init_8 (fun q1 cL H hK hP hD hS => ?_)
  refine W.widen (k := 1) (n := 900) (by omega) (by omega) ?_
  have hP : va_P D classes [(h0, .inr (1, [.null, .null, .null, .null, .int 0, .null, .int 0, .long 0, .null, .int 0])), (q1, .inl (cL, 900, .inr (.inl (fun _ => 0))))] H := hP
  have hD : va_D A [(h0, .inr (1, [.null, .null, .null, .null, .int 0, .null, .int 0, .long 0, .null, .int 0])), (q1, .inl (cL, 900, .inr (.inl (fun _ => 0))))] := hD
  refine va_putF (D := D) (ci := 1) (v := .ref q1) (ty := .array .long) (C := R_CO) (T := F_CO) (N := 10) hx hb hts in_CO t_CO t_CO_ok n_CO hown hK hP hD hS 0 rfl rfl 0 (by decide) (hts _ m_18) (fun _ h9 => h9) rfl hin rfl (by decide +kernel) rfl rfl (Nat.le_of_ble_eq_true rfl) d_CO_init_10 (fun H locs hP hD hS => ?_)
  have hP : va_P D classes [(h0, .inr (1, [.ref q1, .null, .null, .null, .int 0, .null, .int 0, .long 0, .null, .int 0])), (q1, .inl (cL, 900, .inr (.inl (fun _ => 0))))] H := hP
  have hD : va_D A [(h0, .inr (1, [.ref q1, .null, .null, .null, .int 0, .null, .int 0, .long 0, .null, .int 0])), (q1, .inl (cL, 900, .inr (.inl (fun _ => 0))))] := hD
  refine lv_aload_n hx hb d_CO_init_13 rfl (lv_at hl 0 rfl) ?_
  refine lv_sipush (v := 900) hx hb d_CO_init_14 (by decide +kernel) ?_
  refine va_newa (atype := .int) (ty := .int) (a0 := (900, .inl (fun _ => 0))) (N' := 900) hx hb (hts _ m_55) rfl hK hP hD hS hA (fun _ => rfl) (by decide) (by decide +kernel) (by decide +kernel) (Nat.le_of_ble_eq_true rfl) (Nat.le_of_ble_eq_true rfl) d_CO_init_17 (fun q2 cI H hK hP hD hS => ?_)
  refine W.widen (k := 2) (n := 1800) (by omega) (by omega) ?_
  have hP : va_P D classes [(h0, .inr (1, [.ref q1, .null, .null, .null, .int 0, .null, .int 0, .long 0, .null, .int 0])), (q1, .inl (cL, 900, .inr (.inl (fun _ => 0)))), (q2, .inl (cI, 900, .inl (fun _ => 0)))] H := hP
  have hD : va_D A [(h0, .inr (1, [.ref q1, .null, .null, .null, .int 0, .null, .int 0, .long 0, .null, .int 0])), (q1, .inl (cL, 900, .inr (.inl (fun _ => 0)))), (q2, .inl (cI, 900, .inl (fun _ => 0)))] := hD
  refine va_putF (D := D) (ci := 1) (v := .ref q2) (ty := .array .int) (C := R_CO) (T := F_CO) (N := 10) hx hb hts in_CO t_CO t_CO_ok n_CO hown hK hP hD hS 0 rfl rfl 1 (by decide) (hts _ m_20) (fun _ h9 => h9) rfl hin rfl (by decide +kernel) rfl rfl (Nat.le_of_ble_eq_true rfl) d_CO_init_19 (fun H locs hP hD hS => ?_)
  have hP : va_P D classes [(h0, .inr (1, [.ref q1, .ref q2, .null, .null, .int 0, .null, .int 0, .long 0, .null, .int 0])), (q1, .inl (cL, 900, .inr (.inl (fun _ => 0)))), (q2, .inl (cI, 900, .inl (fun _ => 0)))] H := hP
  have hD : va_D A [(h0, .inr (1, [.ref q1, .ref q2, .null, .null, .int 0, .null, .int 0, .long 0, .null, .int 0])), (q1, .inl (cL, 900, .inr (.inl (fun _ => 0)))), (q2, .inl (cI, 900, .inl (fun _ => 0)))] := hD
  refine lv_aload_n hx hb d_CO_init_22 rfl (lv_at hl 0 rfl) ?_
  refine lv_sipush (v := 900) hx hb d_CO_init_23 (by decide +kernel) ?_
  refine va_newa (atype := .int) (ty := .int) (a0 := (900, .inl (fun _ => 0))) (N' := 900) hx hb (hts _ m_55) rfl hK hP hD hS hA (fun _ => rfl) (by decide) (by decide +kernel) (by decide +kernel) (Nat.le_of_ble_eq_true rfl) (Nat.le_of_ble_eq_true rfl) d_CO_init_26 (fun q3 cI1 H hK hP hD hS => ?_)
  have hJ : cI1 = cI := ci_eq hK (i := 1) (j := 2) rfl rfl
  rw [hJ] at hK hP hD
  have hK := hK.sub (tys' := [(cL, .long), (cI, .int)]) [0, 1] rfl
  refine W.widen (k := 3) (n := 2700) (by omega) (by omega) ?_
  have hP : va_P D classes [(h0, .inr (1, [.ref q1, .ref q2, .null, .null, .int 0, .null, .int 0, .long 0, .null, .int 0])), (q1, .inl (cL, 900, .inr (.inl (fun _ => 0)))), (q2, .inl (cI, 900, .inl (fun _ => 0))), (q3, .inl (cI, 900, .inl (fun _ => 0)))] H := hP
  have hD : va_D A [(h0, .inr (1, [.ref q1, .ref q2, .null, .null, .int 0, .null, .int 0, .long 0, .null, .int 0])), (q1, .inl (cL, 900, .inr (.inl (fun _ => 0)))), (q2, .inl (cI, 900, .inl (fun _ => 0))), (q3, .inl (cI, 900, .inl (fun _ => 0)))] := hD
  refine va_putF (D := D) (ci := 1) (v := .ref q3) (ty := .array .int) (C := R_CO) (T := F_CO) (N := 10) hx hb hts in_CO t_CO t_CO_ok n_CO hown hK hP hD hS 0 rfl rfl 2 (by decide) (hts _ m_22) (fun _ h9 => h9) rfl hin rfl (by decide +kernel) rfl rfl (Nat.le_of_ble_eq_true rfl) d_CO_init_28 (fun H locs hP hD hS => ?_)
  have hP : va_P D classes [(h0, .inr (1, [.ref q1, .ref q2, .ref q3, .null, .int 0, .null, .int 0, .long 0, .null, .int 0])), (q1, .inl (cL, 900, .inr (.inl (fun _ => 0)))), (q2, .inl (cI, 900, .inl (fun _ => 0))), (q3, .inl (cI, 900, .inl (fun _ => 0)))] H := hP
  have hD : va_D A [(h0, .inr (1, [.ref q1, .ref q2, .ref q3, .null, .int 0, .null, .int 0, .long 0, .null, .int 0])), (q1, .inl (cL, 900, .inr (.inl (fun _ => 0)))), (q2, .inl (cI, 900, .inl (fun _ => 0))), (q3, .inl (cI, 900, .inl (fun _ => 0)))] := hD
  refine lv_aload_n hx hb d_CO_init_31 rfl (lv_at hl 0 rfl) ?_
  refine lv_sipush (v := 900) hx hb d_CO_init_32 (by decide +kernel) ?_
  refine va_newa (atype := .int) (ty := .int) (a0 := (900, .inl (fun _ => 0))) (N' := 900) hx hb (hts _ m_55) rfl hK hP hD hS hA (fun _ => rfl) (by decide) (by decide +kernel) (by decide +kernel) (Nat.le_of_ble_eq_true rfl) (Nat.le_of_ble_eq_true rfl) d_CO_init_35 (fun q4 cI2 H hK hP hD hS => ?_)
  have hJ : cI2 = cI := ci_eq hK (i := 1) (j := 2) rfl rfl
  rw [hJ] at hK hP hD
  have hK := hK.sub (tys' := [(cL, .long), (cI, .int)]) [0, 1] rfl
  refine W.widen (k := 4) (n := 3600) (by omega) (by omega) ?_
  have hP : va_P D classes [(h0, .inr (1, [.ref q1, .ref q2, .ref q3, .null, .int 0, .null, .int 0, .long 0, .null, .int 0])), (q1, .inl (cL, 900, .inr (.inl (fun _ => 0)))), (q2, .inl (cI, 900, .inl (fun _ => 0))), (q3, .inl (cI, 900, .inl (fun _ => 0))), (q4, .inl (cI, 900, .inl (fun _ => 0)))] H := hP
  have hD : va_D A [(h0, .inr (1, [.ref q1, .ref q2, .ref q3, .null, .int 0, .null, .int 0, .long 0, .null, .int 0])), (q1, .inl (cL, 900, .inr (.inl (fun _ => 0)))), (q2, .inl (cI, 900, .inl (fun _ => 0))), (q3, .inl (cI, 900, .inl (fun _ => 0))), (q4, .inl (cI, 900, .inl (fun _ => 0)))] := hD
  refine va_putF (D := D) (ci := 1) (v := .ref q4) (ty := .array .int) (C := R_CO) (T := F_CO) (N := 10) hx hb hts in_CO t_CO t_CO_ok n_CO hown hK hP hD hS 0 rfl rfl 3 (by decide) (hts _ m_24) (fun _ h9 => h9) rfl hin rfl (by decide +kernel) rfl rfl (Nat.le_of_ble_eq_true rfl) d_CO_init_37 (fun H locs hP hD hS => ?_)
  have hP : va_P D classes [(h0, .inr (1, [.ref q1, .ref q2, .ref q3, .ref q4, .int 0, .null, .int 0, .long 0, .null, .int 0])), (q1, .inl (cL, 900, .inr (.inl (fun _ => 0)))), (q2, .inl (cI, 900, .inl (fun _ => 0))), (q3, .inl (cI, 900, .inl (fun _ => 0))), (q4, .inl (cI, 900, .inl (fun _ => 0)))] H := hP
  have hD : va_D A [(h0, .inr (1, [.ref q1, .ref q2, .ref q3, .ref q4, .int 0, .null, .int 0, .long 0, .null, .int 0])), (q1, .inl (cL, 900, .inr (.inl (fun _ => 0)))), (q2, .inl (cI, 900, .inl (fun _ => 0))), (q3, .inl (cI, 900, .inl (fun _ => 0))), (q4, .inl (cI, 900, .inl (fun _ => 0)))] := hD
  refine lv_aload_n hx hb d_CO_init_40 rfl (lv_at hl 0 rfl) ?_
  refine lv_sipush (v := 1024) hx hb d_CO_init_41 (by decide +kernel) ?_
  refine va_newa (atype := .int) (ty := .int) (a0 := (1024, .inl (fun _ => 0))) (N' := 1024) hx hb (hts _ m_55) rfl hK hP hD hS hA (fun _ => rfl) (by decide) (by decide +kernel) (by decide +kernel) (Nat.le_of_ble_eq_true rfl) (Nat.le_of_ble_eq_true rfl) d_CO_init_44 (fun q5 cI3 H hK hP hD hS => ?_)
  have hJ : cI3 = cI := ci_eq hK (i := 1) (j := 2) rfl rfl
  rw [hJ] at hK hP hD
  have hK := hK.sub (tys' := [(cL, .long), (cI, .int)]) [0, 1] rfl
  refine W.widen (k := 5) (n := 4624) (by omega) (by omega) ?_
  have hP : va_P D classes [(h0, .inr (1, [.ref q1, .ref q2, .ref q3, .ref q4, .int 0, .null, .int 0, .long 0, .null, .int 0])), (q1, .inl (cL, 900, .inr (.inl (fun _ => 0)))), (q2, .inl (cI, 900, .inl (fun _ => 0))), (q3, .inl (cI, 900, .inl (fun _ => 0))), (q4, .inl (cI, 900, .inl (fun _ => 0))), (q5, .inl (cI, 1024, .inl (fun _ => 0)))] H := hP
  have hD : va_D A [(h0, .inr (1, [.ref q1, .ref q2, .ref q3, .ref q4, .int 0, .null, .int 0, .long 0, .null, .int 0])), (q1, .inl (cL, 900, .inr (.inl (fun _ => 0)))), (q2, .inl (cI, 900, .inl (fun _ => 0))), (q3, .inl (cI, 900, .inl (fun _ => 0))), (q4, .inl (cI, 900, .inl (fun _ => 0))), (q5, .inl (cI, 1024, .inl (fun _ => 0)))] := hD
  refine va_putF (D := D) (ci := 1) (v := .ref q5) (ty := .array .int) (C := R_CO) (T := F_CO) (N := 10) hx hb hts in_CO t_CO t_CO_ok n_CO hown hK hP hD hS 0 rfl rfl 5 (by decide) (hts _ m_26) (fun _ h9 => h9) rfl hin rfl (by decide +kernel) rfl rfl (Nat.le_of_ble_eq_true rfl) d_CO_init_46 (fun H locs hP hD hS => ?_)
  have hP : va_P D classes [(h0, .inr (1, [.ref q1, .ref q2, .ref q3, .ref q4, .int 0, .ref q5, .int 0, .long 0, .null, .int 0])), (q1, .inl (cL, 900, .inr (.inl (fun _ => 0)))), (q2, .inl (cI, 900, .inl (fun _ => 0))), (q3, .inl (cI, 900, .inl (fun _ => 0))), (q4, .inl (cI, 900, .inl (fun _ => 0))), (q5, .inl (cI, 1024, .inl (fun _ => 0)))] H := hP
  have hD : va_D A [(h0, .inr (1, [.ref q1, .ref q2, .ref q3, .ref q4, .int 0, .ref q5, .int 0, .long 0, .null, .int 0])), (q1, .inl (cL, 900, .inr (.inl (fun _ => 0)))), (q2, .inl (cI, 900, .inl (fun _ => 0))), (q3, .inl (cI, 900, .inl (fun _ => 0))), (q4, .inl (cI, 900, .inl (fun _ => 0))), (q5, .inl (cI, 1024, .inl (fun _ => 0)))] := hD
  refine lv_aload_n hx hb d_CO_init_49 rfl (lv_at hl 0 rfl) ?_
  refine lv_sipush (v := 900) hx hb d_CO_init_50 (by decide +kernel) ?_
  refine va_newa (atype := .int) (ty := .int) (a0 := (900, .inl (fun _ => 0))) (N' := 900) hx hb (hts _ m_55) rfl hK hP hD hS hA (fun _ => rfl) (by decide) (by decide +kernel) (by decide +kernel) (Nat.le_of_ble_eq_true rfl) (Nat.le_of_ble_eq_true rfl) d_CO_init_53 (fun q6 cI4 H hK hP hD hS => ?_)
  have hJ : cI4 = cI := ci_eq hK (i := 1) (j := 2) rfl rfl
  rw [hJ] at hK hP hD
  have hK := hK.sub (tys' := [(cL, .long), (cI, .int)]) [0, 1] rfl
  refine W.widen (k := 6) (n := 5524) (by omega) (by omega) ?_
  have hP : va_P D classes [(h0, .inr (1, [.ref q1, .ref q2, .ref q3, .ref q4, .int 0, .ref q5, .int 0, .long 0, .null, .int 0])), (q1, .inl (cL, 900, .inr (.inl (fun _ => 0)))), (q2, .inl (cI, 900, .inl (fun _ => 0))), (q3, .inl (cI, 900, .inl (fun _ => 0))), (q4, .inl (cI, 900, .inl (fun _ => 0))), (q5, .inl (cI, 1024, .inl (fun _ => 0))), (q6, .inl (cI, 900, .inl (fun _ => 0)))] H := hP
  have hD : va_D A [(h0, .inr (1, [.ref q1, .ref q2, .ref q3, .ref q4, .int 0, .ref q5, .int 0, .long 0, .null, .int 0])), (q1, .inl (cL, 900, .inr (.inl (fun _ => 0)))), (q2, .inl (cI, 900, .inl (fun _ => 0))), (q3, .inl (cI, 900, .inl (fun _ => 0))), (q4, .inl (cI, 900, .inl (fun _ => 0))), (q5, .inl (cI, 1024, .inl (fun _ => 0))), (q6, .inl (cI, 900, .inl (fun _ => 0)))] := hD
  refine va_putF (D := D) (ci := 1) (v := .ref q6) (ty := .array .int) (C := R_CO) (T := F_CO) (N := 10) hx hb hts in_CO t_CO t_CO_ok n_CO hown hK hP hD hS 0 rfl rfl 8 (by decide) (hts _ m_31) (fun _ h9 => h9) rfl hin rfl (by decide +kernel) rfl rfl (Nat.le_of_ble_eq_true rfl) d_CO_init_55 (fun H locs hP hD hS => ?_)
  have hP : va_P D classes [(h0, .inr (1, [.ref q1, .ref q2, .ref q3, .ref q4, .int 0, .ref q5, .int 0, .long 0, .ref q6, .int 0])), (q1, .inl (cL, 900, .inr (.inl (fun _ => 0)))), (q2, .inl (cI, 900, .inl (fun _ => 0))), (q3, .inl (cI, 900, .inl (fun _ => 0))), (q4, .inl (cI, 900, .inl (fun _ => 0))), (q5, .inl (cI, 1024, .inl (fun _ => 0))), (q6, .inl (cI, 900, .inl (fun _ => 0)))] H := hP
  have hD : va_D A [(h0, .inr (1, [.ref q1, .ref q2, .ref q3, .ref q4, .int 0, .ref q5, .int 0, .long 0, .ref q6, .int 0])), (q1, .inl (cL, 900, .inr (.inl (fun _ => 0)))), (q2, .inl (cI, 900, .inl (fun _ => 0))), (q3, .inl (cI, 900, .inl (fun _ => 0))), (q4, .inl (cI, 900, .inl (fun _ => 0))), (q5, .inl (cI, 1024, .inl (fun _ => 0))), (q6, .inl (cI, 900, .inl (fun _ => 0)))] := hD
  refine lv_iconst (v := nI 0) hx hb d_CO_init_58 (by decide +kernel) ?_
  refine lv_istore_n (lv' := [(1, .int (nI 0)), (0, .ref h0)]) hx hb d_CO_init_59 rfl hl (by decide) rfl (fun ls hl => ?_)
  have loop : ∀ (d z : Nat) (ls : Array Slot) (H : Heap) (locs : List Loc), 900 - z = d → z ≤ 900 → lv_has ls 2 [(1, .int (nI z)), (0, .ref h0)] → va_P D classes [(h0, .inr (1, [.ref q1, .ref q2, .ref q3, .ref q4, .int (0), .ref q5, .int 0, .long 0, .ref q6, .int 0])), (q1, .inl (cL, 900, .inr (.inl (fun _ => 0)))), (q2, .inl (cI, 900, .inl (fun _ => 0))), (q3, .inl (cI, 900, .inl (fun _ => 0))), (q4, .inl (cI, 900, .inl (fun j => nI ((fz z) j)))), (q5, .inl (cI, 1024, .inl (fun _ => 0))), (q6, .inl (cI, 900, .inl (fun _ => 0)))] H → va_D A [(h0, .inr (1, [.ref q1, .ref q2, .ref q3, .ref q4, .int (0), .ref q5, .int 0, .long 0, .ref q6, .int 0])), (q1, .inl (cL, 900, .inr (.inl (fun _ => 0)))), (q2, .inl (cI, 900, .inl (fun _ => 0))), (q3, .inl (cI, 900, .inl (fun _ => 0))), (q4, .inl (cI, 900, .inl (fun j => nI ((fz z) j)))), (q5, .inl (cI, 1024, .inl (fun _ => 0))), (q6, .inl (cI, 900, .inl (fun _ => 0)))] → va_S A s.heap H locs → W p l e rm_CO_init s m (List.toArray [.ref h0]) below meth c H locs 6 5524 (MQ below (va_Qv (fun _ : Unit => True) (fun _ t => ∃ (ad : Nat → Nat) (cL cI : ClassId), ad 0 = h0 ∧ va_P D classes (wC ad cL cI (fun _ => 0) (fun _ => 0) (fun _ => 0) (fun k => 899 - k) 900 (fun _ => 0) 0 0 (fun _ => 0) 0) t.heap ∧ va_K D classes [(cL, .long), (cI, .int)] t ∧ va_D A (wC ad cL cI (fun _ => 0) (fun _ => 0) (fun _ => 0) (fun k => 899 - k) 900 (fun _ => 0) 0 0 (fun _ => 0) 0)) A) (List.toArray [.ref h0]) s 6 5524 A) (F0 m 60 ls []) := by
    intro d
    induction d with
    | zero =>
      intro z ls H locs hd hz hl hP hD hS
      have hz : z = 900 := by omega
      subst hz
      refine lv_iload_n hx hb d_CO_init_60 rfl (lv_at hl 0 rfl) ?_
      refine lv_sipush (v := nI 900) hx hb d_CO_init_61 (by decide +kernel) ?_
      refine lv_icmp_ge (tgt := 84) hx hb d_CO_init_64 (by decide) (fun g => ?_) (fun g => absurd (nI_le (Nat.le_refl _) (by decide)) g)
      refine lv_aload_n hx hb d_CO_init_84 rfl (lv_at hl 1 rfl) ?_
      refine lv_sipush (v := nI 900) hx hb d_CO_init_85 (by decide +kernel) ?_
      refine va_put (D := D) (ci := 1) (v := .int (nI 900)) (ty := .int) (C := R_CO) (T := F_CO) (N := 10) hx hb hts in_CO t_CO t_CO_ok n_CO hown hK hP hD hS 0 rfl rfl 4 (by decide) (hts _ m_25) (fun _ h9 => h9) rfl (by decide +kernel) rfl rfl (Nat.le_of_ble_eq_true rfl) d_CO_init_88 (fun H locs hP hD hS => ?_)
      rw [fz_end] at hP hD
      have hP : va_P D classes [(h0, .inr (1, [.ref q1, .ref q2, .ref q3, .ref q4, .int (nI 900), .ref q5, .int 0, .long 0, .ref q6, .int 0])), (q1, .inl (cL, 900, .inr (.inl (fun _ => 0)))), (q2, .inl (cI, 900, .inl (fun _ => 0))), (q3, .inl (cI, 900, .inl (fun _ => 0))), (q4, .inl (cI, 900, .inl (fun j => nI ((fun k => 899 - k) j)))), (q5, .inl (cI, 1024, .inl (fun _ => 0))), (q6, .inl (cI, 900, .inl (fun _ => 0)))] H := hP
      have hD : va_D A [(h0, .inr (1, [.ref q1, .ref q2, .ref q3, .ref q4, .int (nI 900), .ref q5, .int 0, .long 0, .ref q6, .int 0])), (q1, .inl (cL, 900, .inr (.inl (fun _ => 0)))), (q2, .inl (cI, 900, .inl (fun _ => 0))), (q3, .inl (cI, 900, .inl (fun _ => 0))), (q4, .inl (cI, 900, .inl (fun j => nI ((fun k => 899 - k) j)))), (q5, .inl (cI, 1024, .inl (fun _ => 0))), (q6, .inl (cI, 900, .inl (fun _ => 0)))] := hD
      exact W.vret hx hb hr (fun t ht hW => ⟨⟨(), rfl, trivial, (fun k => [h0, q1, q2, q3, q4, q5, q6].getD k 0), cL, cI, rfl, by rw [ht]; exact hP, va_K.moved hW.alike hK, hD⟩, hS.F ht⟩) hS.2.2 d_CO_init_91
    | succ d ih =>
      intro z ls H locs hd hz hl hP hD hS
      refine lv_iload_n hx hb d_CO_init_60 rfl (lv_at hl 0 rfl) ?_
      refine lv_sipush (v := nI 900) hx hb d_CO_init_61 (by decide +kernel) ?_
      refine lv_icmp_ge (tgt := 84) hx hb d_CO_init_64 (by decide) (fun g => absurd g (nI_ge (by omega) (by decide))) (fun g => ?_)
      refine lv_aload_n hx hb d_CO_init_67 rfl (lv_at hl 1 rfl) ?_
      refine va_get (D := D) (ci := 1) (v := .ref q4) (C := R_CO) (T := F_CO) (N := 10) hx hb hts in_CO hown hK hP 0 rfl rfl 3 (by decide) (hts _ m_24) (fun _ h9 => h9) rfl d_CO_init_68 ?_
      refine lv_iload_n hx hb d_CO_init_71 rfl (lv_at hl 0 rfl) ?_
      refine lv_sipush (v := nI 899) hx hb d_CO_init_72 (by decide +kernel) ?_
      refine lv_iload_n hx hb d_CO_init_75 rfl (lv_at hl 0 rfl) ?_
      refine lv_isub hx hb d_CO_init_76 ?_
      refine lv_repi (nI (899 - z)) (pk_sub (by omega)) ?_
      refine xi_ast hx hb hK hP hD hS 4 1 rfl rfl z (fun j => nI (fz (z + 1) j)) rfl (by omega) (by decide) (by rw [un_nI, fz_st]) d_CO_init_77 (fun H locs hP hD hS => ?_)
      have hP : va_P D classes [(h0, .inr (1, [.ref q1, .ref q2, .ref q3, .ref q4, .int (0), .ref q5, .int 0, .long 0, .ref q6, .int 0])), (q1, .inl (cL, 900, .inr (.inl (fun _ => 0)))), (q2, .inl (cI, 900, .inl (fun _ => 0))), (q3, .inl (cI, 900, .inl (fun _ => 0))), (q4, .inl (cI, 900, .inl (fun j => nI ((fz (z + 1)) j)))), (q5, .inl (cI, 1024, .inl (fun _ => 0))), (q6, .inl (cI, 900, .inl (fun _ => 0)))] H := hP
      have hD : va_D A [(h0, .inr (1, [.ref q1, .ref q2, .ref q3, .ref q4, .int (0), .ref q5, .int 0, .long 0, .ref q6, .int 0])), (q1, .inl (cL, 900, .inr (.inl (fun _ => 0)))), (q2, .inl (cI, 900, .inl (fun _ => 0))), (q3, .inl (cI, 900, .inl (fun _ => 0))), (q4, .inl (cI, 900, .inl (fun j => nI ((fz (z + 1)) j)))), (q5, .inl (cI, 1024, .inl (fun _ => 0))), (q6, .inl (cI, 900, .inl (fun _ => 0)))] := hD
      refine lv_iinc (k := 0) (v := nI (z + 1)) (lv' := [(1, .int (nI (z + 1))), (0, .ref h0)]) hx hb d_CO_init_78 hl rfl (nv_inc _) (by decide) rfl (fun ls hl => ?_)
      refine lv_goto (tgt := 60) hx hb d_CO_init_81 (by decide) ?_
      exact ih (z + 1) ls H locs (by omega) (by omega) hl hP hD hS
  exact loop 900 0 ls _ _ rfl (by decide) hl (by rw [fz_0]; exact hP) (by rw [fz_0]; exact hD) hS
abbrev rm_MO_init : Room := { frames := 1, cells := 3, slots := 2700, locals := 12 }
set_option maxHeartbeats 4000000 in
set_option maxRecDepth 100000 in
/-- NameTableModel(): three new arrays -/
theorem c_MO_init (l : Launch) (D : va_G) (h0 sz : Nat) : Met l y_MO_init (Cond.code y_MO_init b_MO_init 1 none :: tg) rm_MO_init (va_Pc [.ref h0] (fun U => U.heap.size = sz ∧ va_P D classes [(h0, .inr (2, [.null, .null, .null, .int 0]))] U.heap ∧ va_K D classes [] U ∧ va_D (fun _ => True) [(h0, .inr (2, [.null, .null, .null, .int 0]))])) (va_Qv (fun _ : Unit => True) (fun _ t => ∃ (am : Nat → Nat) (cL cI : ClassId), am 0 = h0 ∧ va_P D classes (wM am cL cI 0 (fun _ => 0) (fun _ => 0) (fun _ => 0)) t.heap ∧ va_K D classes [(cL, .long), (cI, .int)] t ∧ va_D (va_A [(h0, .inr (2, [.null, .null, .null, .int 0]))] sz) (wM am cL cI 0 (fun _ => 0) (fun _ => 0) (fun _ => 0))) (va_A [(h0, .inr (2, [.null, .null, .null, .int 0]))] sz)) 3 2700 (va_A [(h0, .inr (2, [.null, .null, .null, .int 0]))] sz) := by
  refine Met.ofW (cc := b_MO_init) (maxL := 1) (ret := none) (by decide) rfl ?_
  intro p e s m args below meth c s₁ B hml hv
  obtain ⟨rfl, hsz, hP, hK, hD0⟩ := hv
  have hx := B.exec
  have hb := B.bytes
  have hr := B.returns
  have hts : ∀ w ∈ tg, w.before (List.toArray [.ref h0]) s = true := fun w hw => atoms_spec (ws := Cond.code y_MO_init b_MO_init 1 none :: tg) B.pre w (List.mem_cons_of_mem _ hw)
  have hown : s.vm.findClass "NameTableModel" = some m.cls := findClass_of_methodNamed B.named
  have hlocks := B.notSynchronized
  have hin : meth.name = "<init>" := (name_of_methodNamed B.named B.method).1
  subst hsz
  have hD := hD0.self (sz := s.heap.size)
  generalize hAe : va_A [(h0, .inr (2, [.null, .null, .null, .int 0]))] s.heap.size = A at hD ⊢
  have hA : ∀ q : Nat, s.heap.size ≤ q → A q := fun q h => by rw [← hAe]; exact Or.inr h
  have hS : va_S A s.heap s.heap [] := va_S.rf
  have hP : va_P D classes [(h0, .inr (2, [.null, .null, .null, .int 0]))] s.heap := hP
  have hl := lv_entry ([.ref h0]) (n := 1) (Nat.le_of_ble_eq_true rfl)
  rw [lg_entry_eq]
  generalize (lg_sl ([.ref h0]) ++ List.replicate (1 - (lg_sl ([.ref h0])).length) Slot.unset).toArray = ls at hl ⊢
  have hl : lv_has ls 1 [(0, .ref h0)] := hl
  refine lv_aload_n hx hb d_MO_init_0 rfl (lv_at hl 0 rfl) ?_
  refine W.objInit hx hb hown (hts _ m_146) (hts _ m_10) (hts _ m_11) rfl (by rw [hml]; exact hl.1) rfl d_MO_init_1 (Nat.le_of_ble_eq_true rfl) (Nat.le_of_ble_eq_true rfl) ?_
  refine W.eq (g2 := F0 m 4 ls []) rfl ?_
  refine lv_aload_n hx hb d_MO_init_4 rfl (lv_at hl 0 rfl) ?_
  refine lv_sipush (v := 900) hx hb d_MO_init_5 (by decide +kernel) ?_
  refine va_newa (atype := .long) (ty := .long) (a0 := (900, .inr (.inl (fun _ => 0)))) (N' := 900) hx hb (hts _ m_54) rfl hK hP hD hS hA (fun _ => rfl) (by decide) (by decide +kernel) (by decide +kernel) (Nat.le_of_ble_eq_true rfl) (Nat.le_of_ble_eq_true rfl) d_MO_init_8 (fun q1 cL H hK hP hD hS => ?_)
  refine W.widen (k := 1) (n := 900) (by omega) (by omega) ?_
  have hP : va_P D classes [(h0, .inr (2, [.null, .null, .null, .int 0])), (q1, .inl (cL, 900, .inr (.inl (fun _ => 0))))] H := hP
  have hD : va_D A [(h0, .inr (2, [.null, .null, .null, .int 0])), (q1, .inl (cL, 900, .inr (.inl (fun _ => 0))))] := hD
  refine va_putF (D := D) (ci := 2) (v := .ref q1) (ty := .array .long) (C := R_MO) (T := F_MO) (N := 4) hx hb hts in_MO t_MO t_MO_ok n_MO hown hK hP hD hS 0 rfl rfl 0 (by decide) (hts _ m_147) (fun _ h9 => h9) rfl hin rfl (by decide +kernel) rfl rfl (Nat.le_of_ble_eq_true rfl) d_MO_init_10 (fun H locs hP hD hS => ?_)
  have hP : va_P D classes [(h0, .inr (2, [.ref q1, .null, .null, .int 0])), (q1, .inl (cL, 900, .inr (.inl (fun _ => 0))))] H := hP
  have hD : va_D A [(h0, .inr (2, [.ref q1, .null, .null, .int 0])), (q1, .inl (cL, 900, .inr (.inl (fun _ => 0))))] := hD
  refine lv_aload_n hx hb d_MO_init_13 rfl (lv_at hl 0 rfl) ?_
  refine lv_sipush (v := 900) hx hb d_MO_init_14 (by decide +kernel) ?_
  refine va_newa (atype := .int) (ty := .int) (a0 := (900, .inl (fun _ => 0))) (N' := 900) hx hb (hts _ m_55) rfl hK hP hD hS hA (fun _ => rfl) (by decide) (by decide +kernel) (by decide +kernel) (Nat.le_of_ble_eq_true rfl) (Nat.le_of_ble_eq_true rfl) d_MO_init_17 (fun q2 cI H hK hP hD hS => ?_)
  refine W.widen (k := 2) (n := 1800) (by omega) (by omega) ?_
  have hP : va_P D classes [(h0, .inr (2, [.ref q1, .null, .null, .int 0])), (q1, .inl (cL, 900, .inr (.inl (fun _ => 0)))), (q2, .inl (cI, 900, .inl (fun _ => 0)))] H := hP
  have hD : va_D A [(h0, .inr (2, [.ref q1, .null, .null, .int 0])), (q1, .inl (cL, 900, .inr (.inl (fun _ => 0)))), (q2, .inl (cI, 900, .inl (fun _ => 0)))] := hD
  refine va_putF (D := D) (ci := 2) (v := .ref q2) (ty := .array .int) (C := R_MO) (T := F_MO) (N := 4) hx hb hts in_MO t_MO t_MO_ok n_MO hown hK hP hD hS 0 rfl rfl 1 (by decide) (hts _ m_148) (fun _ h9 => h9) rfl hin rfl (by decide +kernel) rfl rfl (Nat.le_of_ble_eq_true rfl) d_MO_init_19 (fun H locs hP hD hS => ?_)
  have hP : va_P D classes [(h0, .inr (2, [.ref q1, .ref q2, .null, .int 0])), (q1, .inl (cL, 900, .inr (.inl (fun _ => 0)))), (q2, .inl (cI, 900, .inl (fun _ => 0)))] H := hP
  have hD : va_D A [(h0, .inr (2, [.ref q1, .ref q2, .null, .int 0])), (q1, .inl (cL, 900, .inr (.inl (fun _ => 0)))), (q2, .inl (cI, 900, .inl (fun _ => 0)))] := hD
  refine lv_aload_n hx hb d_MO_init_22 rfl (lv_at hl 0 rfl) ?_
  refine lv_sipush (v := 900) hx hb d_MO_init_23 (by decide +kernel) ?_
  refine va_newa (atype := .int) (ty := .int) (a0 := (900, .inl (fun _ => 0))) (N' := 900) hx hb (hts _ m_55) rfl hK hP hD hS hA (fun _ => rfl) (by decide) (by decide +kernel) (by decide +kernel) (Nat.le_of_ble_eq_true rfl) (Nat.le_of_ble_eq_true rfl) d_MO_init_26 (fun q3 cI1 H hK hP hD hS => ?_)
  have hJ : cI1 = cI := ci_eq hK (i := 1) (j := 2) rfl rfl
  rw [hJ] at hK hP hD
  have hK := hK.sub (tys' := [(cL, .long), (cI, .int)]) [0, 1] rfl
  refine W.widen (k := 3) (n := 2700) (by omega) (by omega) ?_
  have hP : va_P D classes [(h0, .inr (2, [.ref q1, .ref q2, .null, .int 0])), (q1, .inl (cL, 900, .inr (.inl (fun _ => 0)))), (q2, .inl (cI, 900, .inl (fun _ => 0))), (q3, .inl (cI, 900, .inl (fun _ => 0)))] H := hP
  have hD : va_D A [(h0, .inr (2, [.ref q1, .ref q2, .null, .int 0])), (q1, .inl (cL, 900, .inr (.inl (fun _ => 0)))), (q2, .inl (cI, 900, .inl (fun _ => 0))), (q3, .inl (cI, 900, .inl (fun _ => 0)))] := hD
  refine va_putF (D := D) (ci := 2) (v := .ref q3) (ty := .array .int) (C := R_MO) (T := F_MO) (N := 4) hx hb hts in_MO t_MO t_MO_ok n_MO hown hK hP hD hS 0 rfl rfl 2 (by decide) (hts _ m_149) (fun _ h9 => h9) rfl hin rfl (by decide +kernel) rfl rfl (Nat.le_of_ble_eq_true rfl) d_MO_init_28 (fun H locs hP hD hS => ?_)
  have hP : va_P D classes [(h0, .inr (2, [.ref q1, .ref q2, .ref q3, .int 0])), (q1, .inl (cL, 900, .inr (.inl (fun _ => 0)))), (q2, .inl (cI, 900, .inl (fun _ => 0))), (q3, .inl (cI, 900, .inl (fun _ => 0)))] H := hP
  have hD : va_D A [(h0, .inr (2, [.ref q1, .ref q2, .ref q3, .int 0])), (q1, .inl (cL, 900, .inr (.inl (fun _ => 0)))), (q2, .inl (cI, 900, .inl (fun _ => 0))), (q3, .inl (cI, 900, .inl (fun _ => 0)))] := hD
  exact W.vret hx hb hr (fun t ht hW => ⟨⟨(), rfl, trivial, (fun k => [h0, q1, q2, q3].getD k 0), cL, cI, rfl, by rw [ht]; exact hP, va_K.moved hW.alike hK, hD⟩, hS.F ht⟩) hS.2.2 d_MO_init_31
abbrev rm_NT_init : Room := { frames := 2, cells := 7, slots := 5534, locals := 33 }
set_option maxHeartbeats 4000000 in
set_option maxRecDepth 100000 in
/-- NameTable(): a new Coins -/
theorem c_NT_init (l : Launch) (D : va_G) (h0 sz : Nat) : Met l y_NT_init (Cond.code y_NT_init b_NT_init 1 none :: tg) rm_NT_init (va_Pc [.ref h0] (fun U => U.heap.size = sz ∧ va_P D classes [(h0, .inr (0, [.null]))] U.heap ∧ va_K D classes [] U ∧ va_D (fun _ => True) [(h0, .inr (0, [.null]))])) (va_Qv (fun _ : Unit => True) (fun _ t => ∃ (ad : Nat → Nat) (cL cI : ClassId), va_P D classes (wX h0 ad cL cI ((fun _ => 0), (fun _ => 0), (fun _ => 0), (fun k => 899 - k), 900, (fun _ => 0), 0, 0, (fun _ => 0), 0)) t.heap ∧ va_K D classes [(cL, .long), (cI, .int)] t ∧ va_D (va_A [(h0, .inr (0, [.null]))] sz) (wX h0 ad cL cI ((fun _ => 0), (fun _ => 0), (fun _ => 0), (fun k => 899 - k), 900, (fun _ => 0), 0, 0, (fun _ => 0), 0))) (va_A [(h0, .inr (0, [.null]))] sz)) 7 5534 (va_A [(h0, .inr (0, [.null]))] sz) := by
  refine Met.ofW (cc := b_NT_init) (maxL := 1) (ret := none) (by decide) rfl ?_
  intro p e s m args below meth c s₁ B hml hv
  obtain ⟨rfl, hsz, hP, hK, hD0⟩ := hv
  have hx := B.exec
  have hb := B.bytes
  have hr := B.returns
  have hts : ∀ w ∈ tg, w.before (List.toArray [.ref h0]) s = true := fun w hw => atoms_spec (ws := Cond.code y_NT_init b_NT_init 1 none :: tg) B.pre w (List.mem_cons_of_mem _ hw)
  have hown : s.vm.findClass "NameTable" = some m.cls := findClass_of_methodNamed B.named
  have hlocks := B.notSynchronized
  have hin : meth.name = "<init>" := (name_of_methodNamed B.named B.method).1
  subst hsz
  have hD := hD0.self (sz := s.heap.size)
  generalize hAe : va_A [(h0, .inr (0, [.null]))] s.heap.size = A at hD ⊢
  have hA : ∀ q : Nat, s.heap.size ≤ q → A q := fun q h => by rw [← hAe]; exact Or.inr h
  have hS : va_S A s.heap s.heap [] := va_S.rf
  have hP : va_P D classes [(h0, .inr (0, [.null]))] s.heap := hP
  have hl := lv_entry ([.ref h0]) (n := 1) (Nat.le_of_ble_eq_true rfl)
  rw [lg_entry_eq]
  generalize (lg_sl ([.ref h0]) ++ List.replicate (1 - (lg_sl ([.ref h0])).length) Slot.unset).toArray = ls at hl ⊢
  have hl : lv_has ls 1 [(0, .ref h0)] := hl
  refine lv_aload_n hx hb d_NT_init_0 rfl (lv_at hl 0 rfl) ?_
  refine W.objInit hx hb hown (hts _ m_9) (hts _ m_10) (hts _ m_11) rfl (by rw [hml]; exact hl.1) rfl d_NT_init_1 (Nat.le_of_ble_eq_true rfl) (Nat.le_of_ble_eq_true rfl) ?_
  refine W.eq (g2 := F0 m 4 ls []) rfl ?_
  refine lv_aload_n hx hb d_NT_init_4 rfl (lv_at hl 0 rfl) ?_
  refine va_new (ci := 1) (fs := [.null, .null, .null, .null, .int 0, .null, .int 0, .long 0, .null, .int 0]) (C := R_CO) (T := F_CO) (N := 10) hx hb hts in_CO t_CO t_CO_ok hown (hts _ m_12) (hts _ m_13) (hts _ m_2) hK hP hD hS hA rfl (fun j hj => by rcases (show j = 0 ∨ j = 1 ∨ j = 2 ∨ j = 3 ∨ j = 4 ∨ j = 5 ∨ j = 6 ∨ j = 7 ∨ j = 8 ∨ j = 9 by omega) with rfl | rfl | rfl | rfl | rfl | rfl | rfl | rfl | rfl | rfl <;> rfl) (Nat.le_of_ble_eq_true rfl) (Nat.le_of_ble_eq_true rfl) d_NT_init_5 (fun q5 H hP hD hS => ?_)
  have hP : va_P D classes [(h0, .inr (0, [.null])), (q5, .inr (1, [.null, .null, .null, .null, .int 0, .null, .int 0, .long 0, .null, .int 0]))] H := hP
  have hD : va_D A [(h0, .inr (0, [.null])), (q5, .inr (1, [.null, .null, .null, .null, .int 0, .null, .int 0, .long 0, .null, .int 0]))] := hD
  refine W.widen (k := 1) (n := 10) (by omega) (by omega) ?_
  refine lv_dup hx hb d_NT_init_8 rfl ?_
  have hPc := hP.sub (ws' := [(q5, .inr (1, [.null, .null, .null, .null, .int 0, .null, .int 0, .long 0, .null, .int 0]))]) [1] rfl
  have hDc := hD.sub (ws' := [(q5, .inr (1, [.null, .null, .null, .null, .int 0, .null, .int 0, .long 0, .null, .int 0]))]) [1] (by decide) rfl
  have hKc := hK.sub (tys' := []) [] rfl
  have hFc := va_free (wc := [(q5, .inr (1, [.null, .null, .null, .null, .int 0, .null, .int 0, .long 0, .null, .int 0]))]) hD hS hA [1] rfl
  refine va_callv (va_runI (As := []) (rest := [.ref q5, .ref h0]) (Ts := tg) ⟨hx, hb, hml, hown, hts⟩ (c_CO_init l D q5 H.size) (cwI 0 hts (gd m_16) rfl rfl rfl (hts _ m_2) (hts _ m_14) (hts _ m_15) rfl (by decide +kernel) ⟨Nat.le_of_ble_eq_true rfl, Nat.le_of_ble_eq_true rfl⟩) ⟨fun a U g mk q => by obtain ⟨q0, q1, qP, qK, qD⟩ := q; exact ⟨q0, q1, qP, va_K.moved (u := U) (U := U.calling g mk a) (Vm.Alike.refl U.vm) qK, qD⟩, fun U hU hW => ⟨rfl, by rw [hU], by rw [hU]; exact hPc, va_K.moved hW.alike hKc, hDc.weaken (fun _ _ _ _ => trivial)⟩⟩ rfl rfl hl.1 rfl (lv_room (Nat.le_of_ble_eq_true rfl)) d_NT_init_9 ⟨Nat.le_of_ble_eq_true rfl, Nat.le_of_ble_eq_true rfl⟩) hS (fun q _ h => hFc q h) hFc (fun u t H1 locs ht hvm h5 hB hz1 hk1 hS => ?_)
  obtain ⟨ad, cL, cI, had, hP1, hK1, hD1⟩ := hB
  rw [ht] at hP1
  have hK1 := va_K.moved hvm.symm hK1
  obtain ⟨hP, hD⟩ := va_join (wr := [(h0, .inr (0, [.null]))]) (w1 := (wC ad cL cI (fun _ => 0) (fun _ => 0) (fun _ => 0) (fun k => 899 - k) 900 (fun _ => 0) 0 0 (fun _ => 0) 0)) hP hD [1] [0] rfl rfl (by decide) (by decide) hk1 hFc hP1 hD1
  generalize H1 = H at hP hS ⊢
  refine W.widen (k := 7) (n := 5534) (by omega) (by omega) ?_
  rw [← had]
  refine va_putF (D := D) (ci := 0) (v := .ref (ad 0)) (ty := .object "NameTable$Coins") (C := R_NT) (T := F_NT) (N := 1) hx hb hts in_NT t_NT t_NT_ok n_NT hown hK1 hP hD hS 0 rfl rfl 0 (by decide) (hts _ m_56) (fun _ h9 => h9) rfl hin rfl (by decide +kernel) rfl rfl (Nat.le_of_ble_eq_true rfl) d_NT_init_12 (fun H locs hP hD hS => ?_)
  have hP : va_P D classes (wX h0 ad cL cI ((fun _ => 0), (fun _ => 0), (fun _ => 0), (fun k => 899 - k), 900, (fun _ => 0), 0, 0, (fun _ => 0), 0)) H := hP
  have hD : va_D A (wX h0 ad cL cI ((fun _ => 0), (fun _ => 0), (fun _ => 0), (fun k => 899 - k), 900, (fun _ => 0), 0, 0, (fun _ => 0), 0)) := hD
  exact W.vret hx hb hr (fun t ht hW => ⟨⟨(), rfl, trivial, ad, cL, cI, by rw [ht]; exact hP, va_K.moved hW.alike hK1, hD⟩, hS.F ht⟩) hS.2.2 d_NT_init_15
end
section
/-! decode rows, printed by gen/gen_names.py -/
theorem d_LW_law_0 : decode code 0 = .ok (.new 7, 3) := by decide +kernel
theorem d_LW_law_3 : decode code 3 = .ok (.dup, 1) := by decide +kernel
theorem d_LW_law_4 : decode code 4 = .ok (.invokespecial 9, 3) := by decide +kernel
theorem d_LW_law_7 : decode code 7 = .ok (.astore_n 1, 1) := by decide +kernel
theorem d_LW_law_8 : decode code 8 = .ok (.new 10, 3) := by decide +kernel
theorem d_LW_law_11 : decode code 11 = .ok (.dup, 1) := by decide +kernel
theorem d_LW_law_12 : decode code 12 = .ok (.invokespecial 12, 3) := by decide +kernel
theorem d_LW_law_15 : decode code 15 = .ok (.astore_n 2, 1) := by decide +kernel
theorem d_LW_law_16 : decode code 16 = .ok (.iconst 0, 1) := by decide +kernel
theorem d_LW_law_17 : decode code 17 = .ok (.istore_n 3, 1) := by decide +kernel
theorem d_LW_law_18 : decode code 18 = .ok (.iload_n 3, 1) := by decide +kernel
theorem d_LW_law_19 : decode code 19 = .ok (.aload_n 0, 1) := by decide +kernel
theorem d_LW_law_20 : decode code 20 = .ok (.arraylength, 1) := by decide +kernel
theorem d_LW_law_21 : decode code 21 = .ok (.bipush 7, 2) := by decide +kernel
theorem d_LW_law_23 : decode code 23 = .ok (.isub, 1) := by decide +kernel
theorem d_LW_law_24 : decode code 24 = .ok (.if_icmp .gt 477, 3) := by decide +kernel
theorem d_LW_law_27 : decode code 27 = .ok (.aload_n 0, 1) := by decide +kernel
theorem d_LW_law_28 : decode code 28 = .ok (.iload_n 3, 1) := by decide +kernel
theorem d_LW_law_29 : decode code 29 = .ok (.iaload, 1) := by decide +kernel
theorem d_LW_law_30 : decode code 30 = .ok (.bipush 15, 2) := by decide +kernel
theorem d_LW_law_32 : decode code 32 = .ok (.iand, 1) := by decide +kernel
theorem d_LW_law_33 : decode code 33 = .ok (.tableswitch 462 0 8 #[51, 124, 239, 302, 325, 388, 412, 435, 448], 51) := by decide +kernel
theorem d_LW_law_84 : decode code 84 = .ok (.aload_n 1, 1) := by decide +kernel
theorem d_LW_law_85 : decode code 85 = .ok (.aload_n 0, 1) := by decide +kernel
theorem d_LW_law_86 : decode code 86 = .ok (.iload_n 3, 1) := by decide +kernel
theorem d_LW_law_87 : decode code 87 = .ok (.iconst 1, 1) := by decide +kernel
theorem d_LW_law_88 : decode code 88 = .ok (.iadd, 1) := by decide +kernel
theorem d_LW_law_89 : decode code 89 = .ok (.iaload, 1) := by decide +kernel
theorem d_LW_law_90 : decode code 90 = .ok (.i2l, 1) := by decide +kernel
theorem d_LW_law_91 : decode code 91 = .ok (.bipush 32, 2) := by decide +kernel
theorem d_LW_law_93 : decode code 93 = .ok (.lshl, 1) := by decide +kernel
theorem d_LW_law_94 : decode code 94 = .ok (.aload_n 0, 1) := by decide +kernel
theorem d_LW_law_95 : decode code 95 = .ok (.iload_n 3, 1) := by decide +kernel
theorem d_LW_law_96 : decode code 96 = .ok (.iconst 2, 1) := by decide +kernel
theorem d_LW_law_97 : decode code 97 = .ok (.iadd, 1) := by decide +kernel
theorem d_LW_law_98 : decode code 98 = .ok (.iaload, 1) := by decide +kernel
theorem d_LW_law_99 : decode code 99 = .ok (.i2l, 1) := by decide +kernel
theorem d_LW_law_100 : decode code 100 = .ok (.ldc2_w 13, 3) := by decide +kernel
theorem d_LW_law_103 : decode code 103 = .ok (.land, 1) := by decide +kernel
theorem d_LW_law_104 : decode code 104 = .ok (.lor, 1) := by decide +kernel
theorem d_LW_law_105 : decode code 105 = .ok (.aload_n 0, 1) := by decide +kernel
theorem d_LW_law_106 : decode code 106 = .ok (.iload_n 3, 1) := by decide +kernel
theorem d_LW_law_107 : decode code 107 = .ok (.iconst 3, 1) := by decide +kernel
theorem d_LW_law_108 : decode code 108 = .ok (.iadd, 1) := by decide +kernel
theorem d_LW_law_109 : decode code 109 = .ok (.iaload, 1) := by decide +kernel
theorem d_LW_law_110 : decode code 110 = .ok (.aload_n 0, 1) := by decide +kernel
theorem d_LW_law_111 : decode code 111 = .ok (.iload_n 3, 1) := by decide +kernel
theorem d_LW_law_112 : decode code 112 = .ok (.iconst 4, 1) := by decide +kernel
theorem d_LW_law_113 : decode code 113 = .ok (.iadd, 1) := by decide +kernel
theorem d_LW_law_114 : decode code 114 = .ok (.iaload, 1) := by decide +kernel
theorem d_LW_law_115 : decode code 115 = .ok (.invokevirtual 15, 3) := by decide +kernel
theorem d_LW_law_118 : decode code 118 = .ok (.aload_n 2, 1) := by decide +kernel
theorem d_LW_law_119 : decode code 119 = .ok (.aload_n 0, 1) := by decide +kernel
theorem d_LW_law_120 : decode code 120 = .ok (.iload_n 3, 1) := by decide +kernel
theorem d_LW_law_121 : decode code 121 = .ok (.iconst 1, 1) := by decide +kernel
theorem d_LW_law_122 : decode code 122 = .ok (.iadd, 1) := by decide +kernel
theorem d_LW_law_123 : decode code 123 = .ok (.iaload, 1) := by decide +kernel
theorem d_LW_law_124 : decode code 124 = .ok (.i2l, 1) := by decide +kernel
theorem d_LW_law_125 : decode code 125 = .ok (.bipush 32, 2) := by decide +kernel
theorem d_LW_law_127 : decode code 127 = .ok (.lshl, 1) := by decide +kernel
theorem d_LW_law_128 : decode code 128 = .ok (.aload_n 0, 1) := by decide +kernel
theorem d_LW_law_129 : decode code 129 = .ok (.iload_n 3, 1) := by decide +kernel
theorem d_LW_law_130 : decode code 130 = .ok (.iconst 2, 1) := by decide +kernel
theorem d_LW_law_131 : decode code 131 = .ok (.iadd, 1) := by decide +kernel
theorem d_LW_law_132 : decode code 132 = .ok (.iaload, 1) := by decide +kernel
theorem d_LW_law_133 : decode code 133 = .ok (.i2l, 1) := by decide +kernel
theorem d_LW_law_134 : decode code 134 = .ok (.ldc2_w 13, 3) := by decide +kernel
theorem d_LW_law_137 : decode code 137 = .ok (.land, 1) := by decide +kernel
theorem d_LW_law_138 : decode code 138 = .ok (.lor, 1) := by decide +kernel
theorem d_LW_law_139 : decode code 139 = .ok (.aload_n 0, 1) := by decide +kernel
theorem d_LW_law_140 : decode code 140 = .ok (.iload_n 3, 1) := by decide +kernel
theorem d_LW_law_141 : decode code 141 = .ok (.iconst 3, 1) := by decide +kernel
theorem d_LW_law_142 : decode code 142 = .ok (.iadd, 1) := by decide +kernel
theorem d_LW_law_143 : decode code 143 = .ok (.iaload, 1) := by decide +kernel
theorem d_LW_law_144 : decode code 144 = .ok (.aload_n 0, 1) := by decide +kernel
theorem d_LW_law_145 : decode code 145 = .ok (.iload_n 3, 1) := by decide +kernel
theorem d_LW_law_146 : decode code 146 = .ok (.iconst 4, 1) := by decide +kernel
theorem d_LW_law_147 : decode code 147 = .ok (.iadd, 1) := by decide +kernel
theorem d_LW_law_148 : decode code 148 = .ok (.iaload, 1) := by decide +kernel
theorem d_LW_law_149 : decode code 149 = .ok (.invokevirtual 19, 3) := by decide +kernel
theorem d_LW_law_152 : decode code 152 = .ok (.if_icmp .eq 343, 3) := by decide +kernel
theorem d_LW_law_155 : decode code 155 = .ok (.iconst 0, 1) := by decide +kernel
theorem d_LW_law_156 : decode code 156 = .ok (.ireturn, 1) := by decide +kernel
theorem d_LW_law_157 : decode code 157 = .ok (.aload_n 1, 1) := by decide +kernel
theorem d_LW_law_158 : decode code 158 = .ok (.aload_n 0, 1) := by decide +kernel
theorem d_LW_law_159 : decode code 159 = .ok (.iload_n 3, 1) := by decide +kernel
theorem d_LW_law_160 : decode code 160 = .ok (.iconst 1, 1) := by decide +kernel
theorem d_LW_law_161 : decode code 161 = .ok (.iadd, 1) := by decide +kernel
theorem d_LW_law_162 : decode code 162 = .ok (.iaload, 1) := by decide +kernel
theorem d_LW_law_163 : decode code 163 = .ok (.i2l, 1) := by decide +kernel
theorem d_LW_law_164 : decode code 164 = .ok (.bipush 32, 2) := by decide +kernel
theorem d_LW_law_166 : decode code 166 = .ok (.lshl, 1) := by decide +kernel
theorem d_LW_law_167 : decode code 167 = .ok (.aload_n 0, 1) := by decide +kernel
theorem d_LW_law_168 : decode code 168 = .ok (.iload_n 3, 1) := by decide +kernel
theorem d_LW_law_169 : decode code 169 = .ok (.iconst 2, 1) := by decide +kernel
theorem d_LW_law_170 : decode code 170 = .ok (.iadd, 1) := by decide +kernel
theorem d_LW_law_171 : decode code 171 = .ok (.iaload, 1) := by decide +kernel
theorem d_LW_law_172 : decode code 172 = .ok (.i2l, 1) := by decide +kernel
theorem d_LW_law_173 : decode code 173 = .ok (.ldc2_w 13, 3) := by decide +kernel
theorem d_LW_law_176 : decode code 176 = .ok (.land, 1) := by decide +kernel
theorem d_LW_law_177 : decode code 177 = .ok (.lor, 1) := by decide +kernel
theorem d_LW_law_178 : decode code 178 = .ok (.aload_n 0, 1) := by decide +kernel
theorem d_LW_law_179 : decode code 179 = .ok (.iload_n 3, 1) := by decide +kernel
theorem d_LW_law_180 : decode code 180 = .ok (.iconst 3, 1) := by decide +kernel
theorem d_LW_law_181 : decode code 181 = .ok (.iadd, 1) := by decide +kernel
theorem d_LW_law_182 : decode code 182 = .ok (.iaload, 1) := by decide +kernel
theorem d_LW_law_183 : decode code 183 = .ok (.i2l, 1) := by decide +kernel
theorem d_LW_law_184 : decode code 184 = .ok (.bipush 32, 2) := by decide +kernel
theorem d_LW_law_186 : decode code 186 = .ok (.lshl, 1) := by decide +kernel
theorem d_LW_law_187 : decode code 187 = .ok (.aload_n 0, 1) := by decide +kernel
theorem d_LW_law_188 : decode code 188 = .ok (.iload_n 3, 1) := by decide +kernel
theorem d_LW_law_189 : decode code 189 = .ok (.iconst 4, 1) := by decide +kernel
theorem d_LW_law_190 : decode code 190 = .ok (.iadd, 1) := by decide +kernel
theorem d_LW_law_191 : decode code 191 = .ok (.iaload, 1) := by decide +kernel
theorem d_LW_law_192 : decode code 192 = .ok (.i2l, 1) := by decide +kernel
theorem d_LW_law_193 : decode code 193 = .ok (.ldc2_w 13, 3) := by decide +kernel
theorem d_LW_law_196 : decode code 196 = .ok (.land, 1) := by decide +kernel
theorem d_LW_law_197 : decode code 197 = .ok (.lor, 1) := by decide +kernel
theorem d_LW_law_198 : decode code 198 = .ok (.aload_n 0, 1) := by decide +kernel
theorem d_LW_law_199 : decode code 199 = .ok (.iload_n 3, 1) := by decide +kernel
theorem d_LW_law_200 : decode code 200 = .ok (.iconst 5, 1) := by decide +kernel
theorem d_LW_law_201 : decode code 201 = .ok (.iadd, 1) := by decide +kernel
theorem d_LW_law_202 : decode code 202 = .ok (.iaload, 1) := by decide +kernel
theorem d_LW_law_203 : decode code 203 = .ok (.aload_n 0, 1) := by decide +kernel
theorem d_LW_law_204 : decode code 204 = .ok (.iload_n 3, 1) := by decide +kernel
theorem d_LW_law_205 : decode code 205 = .ok (.bipush 6, 2) := by decide +kernel
theorem d_LW_law_207 : decode code 207 = .ok (.iadd, 1) := by decide +kernel
theorem d_LW_law_208 : decode code 208 = .ok (.iaload, 1) := by decide +kernel
theorem d_LW_law_209 : decode code 209 = .ok (.invokevirtual 20, 3) := by decide +kernel
theorem d_LW_law_212 : decode code 212 = .ok (.aload_n 2, 1) := by decide +kernel
theorem d_LW_law_213 : decode code 213 = .ok (.aload_n 0, 1) := by decide +kernel
theorem d_LW_law_214 : decode code 214 = .ok (.iload_n 3, 1) := by decide +kernel
theorem d_LW_law_215 : decode code 215 = .ok (.iconst 1, 1) := by decide +kernel
theorem d_LW_law_216 : decode code 216 = .ok (.iadd, 1) := by decide +kernel
theorem d_LW_law_217 : decode code 217 = .ok (.iaload, 1) := by decide +kernel
theorem d_LW_law_218 : decode code 218 = .ok (.i2l, 1) := by decide +kernel
theorem d_LW_law_219 : decode code 219 = .ok (.bipush 32, 2) := by decide +kernel
theorem d_LW_law_221 : decode code 221 = .ok (.lshl, 1) := by decide +kernel
theorem d_LW_law_222 : decode code 222 = .ok (.aload_n 0, 1) := by decide +kernel
theorem d_LW_law_223 : decode code 223 = .ok (.iload_n 3, 1) := by decide +kernel
theorem d_LW_law_224 : decode code 224 = .ok (.iconst 2, 1) := by decide +kernel
theorem d_LW_law_225 : decode code 225 = .ok (.iadd, 1) := by decide +kernel
theorem d_LW_law_226 : decode code 226 = .ok (.iaload, 1) := by decide +kernel
theorem d_LW_law_227 : decode code 227 = .ok (.i2l, 1) := by decide +kernel
theorem d_LW_law_228 : decode code 228 = .ok (.ldc2_w 13, 3) := by decide +kernel
theorem d_LW_law_231 : decode code 231 = .ok (.land, 1) := by decide +kernel
theorem d_LW_law_232 : decode code 232 = .ok (.lor, 1) := by decide +kernel
theorem d_LW_law_233 : decode code 233 = .ok (.aload_n 0, 1) := by decide +kernel
theorem d_LW_law_234 : decode code 234 = .ok (.iload_n 3, 1) := by decide +kernel
theorem d_LW_law_235 : decode code 235 = .ok (.iconst 3, 1) := by decide +kernel
theorem d_LW_law_236 : decode code 236 = .ok (.iadd, 1) := by decide +kernel
theorem d_LW_law_237 : decode code 237 = .ok (.iaload, 1) := by decide +kernel
theorem d_LW_law_238 : decode code 238 = .ok (.i2l, 1) := by decide +kernel
theorem d_LW_law_239 : decode code 239 = .ok (.bipush 32, 2) := by decide +kernel
theorem d_LW_law_241 : decode code 241 = .ok (.lshl, 1) := by decide +kernel
theorem d_LW_law_242 : decode code 242 = .ok (.aload_n 0, 1) := by decide +kernel
theorem d_LW_law_243 : decode code 243 = .ok (.iload_n 3, 1) := by decide +kernel
theorem d_LW_law_244 : decode code 244 = .ok (.iconst 4, 1) := by decide +kernel
theorem d_LW_law_245 : decode code 245 = .ok (.iadd, 1) := by decide +kernel
theorem d_LW_law_246 : decode code 246 = .ok (.iaload, 1) := by decide +kernel
theorem d_LW_law_247 : decode code 247 = .ok (.i2l, 1) := by decide +kernel
theorem d_LW_law_248 : decode code 248 = .ok (.ldc2_w 13, 3) := by decide +kernel
theorem d_LW_law_251 : decode code 251 = .ok (.land, 1) := by decide +kernel
theorem d_LW_law_252 : decode code 252 = .ok (.lor, 1) := by decide +kernel
theorem d_LW_law_253 : decode code 253 = .ok (.aload_n 0, 1) := by decide +kernel
theorem d_LW_law_254 : decode code 254 = .ok (.iload_n 3, 1) := by decide +kernel
theorem d_LW_law_255 : decode code 255 = .ok (.iconst 5, 1) := by decide +kernel
theorem d_LW_law_256 : decode code 256 = .ok (.iadd, 1) := by decide +kernel
theorem d_LW_law_257 : decode code 257 = .ok (.iaload, 1) := by decide +kernel
theorem d_LW_law_258 : decode code 258 = .ok (.aload_n 0, 1) := by decide +kernel
theorem d_LW_law_259 : decode code 259 = .ok (.iload_n 3, 1) := by decide +kernel
end
section
/-! decode rows, printed by gen/gen_names.py -/
theorem d_LW_law_260 : decode code 260 = .ok (.bipush 6, 2) := by decide +kernel
theorem d_LW_law_262 : decode code 262 = .ok (.iadd, 1) := by decide +kernel
theorem d_LW_law_263 : decode code 263 = .ok (.iaload, 1) := by decide +kernel
theorem d_LW_law_264 : decode code 264 = .ok (.invokevirtual 24, 3) := by decide +kernel
theorem d_LW_law_267 : decode code 267 = .ok (.if_icmp .eq 228, 3) := by decide +kernel
theorem d_LW_law_270 : decode code 270 = .ok (.iconst 0, 1) := by decide +kernel
theorem d_LW_law_271 : decode code 271 = .ok (.ireturn, 1) := by decide +kernel
theorem d_LW_law_272 : decode code 272 = .ok (.aload_n 1, 1) := by decide +kernel
theorem d_LW_law_273 : decode code 273 = .ok (.aload_n 0, 1) := by decide +kernel
theorem d_LW_law_274 : decode code 274 = .ok (.iload_n 3, 1) := by decide +kernel
theorem d_LW_law_275 : decode code 275 = .ok (.iconst 1, 1) := by decide +kernel
theorem d_LW_law_276 : decode code 276 = .ok (.iadd, 1) := by decide +kernel
theorem d_LW_law_277 : decode code 277 = .ok (.iaload, 1) := by decide +kernel
theorem d_LW_law_278 : decode code 278 = .ok (.i2l, 1) := by decide +kernel
theorem d_LW_law_279 : decode code 279 = .ok (.bipush 32, 2) := by decide +kernel
theorem d_LW_law_281 : decode code 281 = .ok (.lshl, 1) := by decide +kernel
theorem d_LW_law_282 : decode code 282 = .ok (.aload_n 0, 1) := by decide +kernel
theorem d_LW_law_283 : decode code 283 = .ok (.iload_n 3, 1) := by decide +kernel
theorem d_LW_law_284 : decode code 284 = .ok (.iconst 2, 1) := by decide +kernel
theorem d_LW_law_285 : decode code 285 = .ok (.iadd, 1) := by decide +kernel
theorem d_LW_law_286 : decode code 286 = .ok (.iaload, 1) := by decide +kernel
theorem d_LW_law_287 : decode code 287 = .ok (.i2l, 1) := by decide +kernel
theorem d_LW_law_288 : decode code 288 = .ok (.ldc2_w 13, 3) := by decide +kernel
theorem d_LW_law_291 : decode code 291 = .ok (.land, 1) := by decide +kernel
theorem d_LW_law_292 : decode code 292 = .ok (.lor, 1) := by decide +kernel
theorem d_LW_law_293 : decode code 293 = .ok (.aload_n 0, 1) := by decide +kernel
theorem d_LW_law_294 : decode code 294 = .ok (.iload_n 3, 1) := by decide +kernel
theorem d_LW_law_295 : decode code 295 = .ok (.iconst 3, 1) := by decide +kernel
theorem d_LW_law_296 : decode code 296 = .ok (.iadd, 1) := by decide +kernel
theorem d_LW_law_297 : decode code 297 = .ok (.iaload, 1) := by decide +kernel
theorem d_LW_law_298 : decode code 298 = .ok (.invokevirtual 25, 3) := by decide +kernel
theorem d_LW_law_301 : decode code 301 = .ok (.aload_n 2, 1) := by decide +kernel
theorem d_LW_law_302 : decode code 302 = .ok (.aload_n 0, 1) := by decide +kernel
theorem d_LW_law_303 : decode code 303 = .ok (.iload_n 3, 1) := by decide +kernel
theorem d_LW_law_304 : decode code 304 = .ok (.iconst 1, 1) := by decide +kernel
theorem d_LW_law_305 : decode code 305 = .ok (.iadd, 1) := by decide +kernel
theorem d_LW_law_306 : decode code 306 = .ok (.iaload, 1) := by decide +kernel
theorem d_LW_law_307 : decode code 307 = .ok (.i2l, 1) := by decide +kernel
theorem d_LW_law_308 : decode code 308 = .ok (.bipush 32, 2) := by decide +kernel
theorem d_LW_law_310 : decode code 310 = .ok (.lshl, 1) := by decide +kernel
theorem d_LW_law_311 : decode code 311 = .ok (.aload_n 0, 1) := by decide +kernel
theorem d_LW_law_312 : decode code 312 = .ok (.iload_n 3, 1) := by decide +kernel
theorem d_LW_law_313 : decode code 313 = .ok (.iconst 2, 1) := by decide +kernel
theorem d_LW_law_314 : decode code 314 = .ok (.iadd, 1) := by decide +kernel
theorem d_LW_law_315 : decode code 315 = .ok (.iaload, 1) := by decide +kernel
theorem d_LW_law_316 : decode code 316 = .ok (.i2l, 1) := by decide +kernel
theorem d_LW_law_317 : decode code 317 = .ok (.ldc2_w 13, 3) := by decide +kernel
theorem d_LW_law_320 : decode code 320 = .ok (.land, 1) := by decide +kernel
theorem d_LW_law_321 : decode code 321 = .ok (.lor, 1) := by decide +kernel
theorem d_LW_law_322 : decode code 322 = .ok (.aload_n 0, 1) := by decide +kernel
theorem d_LW_law_323 : decode code 323 = .ok (.iload_n 3, 1) := by decide +kernel
theorem d_LW_law_324 : decode code 324 = .ok (.iconst 3, 1) := by decide +kernel
theorem d_LW_law_325 : decode code 325 = .ok (.iadd, 1) := by decide +kernel
theorem d_LW_law_326 : decode code 326 = .ok (.iaload, 1) := by decide +kernel
theorem d_LW_law_327 : decode code 327 = .ok (.invokevirtual 29, 3) := by decide +kernel
theorem d_LW_law_330 : decode code 330 = .ok (.if_icmp .eq 165, 3) := by decide +kernel
theorem d_LW_law_333 : decode code 333 = .ok (.iconst 0, 1) := by decide +kernel
theorem d_LW_law_334 : decode code 334 = .ok (.ireturn, 1) := by decide +kernel
theorem d_LW_law_335 : decode code 335 = .ok (.aload_n 1, 1) := by decide +kernel
theorem d_LW_law_336 : decode code 336 = .ok (.aload_n 0, 1) := by decide +kernel
theorem d_LW_law_337 : decode code 337 = .ok (.iload_n 3, 1) := by decide +kernel
theorem d_LW_law_338 : decode code 338 = .ok (.iconst 1, 1) := by decide +kernel
theorem d_LW_law_339 : decode code 339 = .ok (.iadd, 1) := by decide +kernel
theorem d_LW_law_340 : decode code 340 = .ok (.iaload, 1) := by decide +kernel
theorem d_LW_law_341 : decode code 341 = .ok (.invokevirtual 30, 3) := by decide +kernel
theorem d_LW_law_344 : decode code 344 = .ok (.aload_n 2, 1) := by decide +kernel
theorem d_LW_law_345 : decode code 345 = .ok (.aload_n 0, 1) := by decide +kernel
theorem d_LW_law_346 : decode code 346 = .ok (.iload_n 3, 1) := by decide +kernel
theorem d_LW_law_347 : decode code 347 = .ok (.iconst 1, 1) := by decide +kernel
theorem d_LW_law_348 : decode code 348 = .ok (.iadd, 1) := by decide +kernel
theorem d_LW_law_349 : decode code 349 = .ok (.iaload, 1) := by decide +kernel
theorem d_LW_law_350 : decode code 350 = .ok (.invokevirtual 34, 3) := by decide +kernel
theorem d_LW_law_353 : decode code 353 = .ok (.if_icmp .eq 142, 3) := by decide +kernel
theorem d_LW_law_356 : decode code 356 = .ok (.iconst 0, 1) := by decide +kernel
theorem d_LW_law_357 : decode code 357 = .ok (.ireturn, 1) := by decide +kernel
theorem d_LW_law_358 : decode code 358 = .ok (.aload_n 1, 1) := by decide +kernel
theorem d_LW_law_359 : decode code 359 = .ok (.aload_n 0, 1) := by decide +kernel
theorem d_LW_law_360 : decode code 360 = .ok (.iload_n 3, 1) := by decide +kernel
theorem d_LW_law_361 : decode code 361 = .ok (.iconst 1, 1) := by decide +kernel
theorem d_LW_law_362 : decode code 362 = .ok (.iadd, 1) := by decide +kernel
theorem d_LW_law_363 : decode code 363 = .ok (.iaload, 1) := by decide +kernel
theorem d_LW_law_364 : decode code 364 = .ok (.i2l, 1) := by decide +kernel
theorem d_LW_law_365 : decode code 365 = .ok (.bipush 32, 2) := by decide +kernel
theorem d_LW_law_367 : decode code 367 = .ok (.lshl, 1) := by decide +kernel
theorem d_LW_law_368 : decode code 368 = .ok (.aload_n 0, 1) := by decide +kernel
theorem d_LW_law_369 : decode code 369 = .ok (.iload_n 3, 1) := by decide +kernel
theorem d_LW_law_370 : decode code 370 = .ok (.iconst 2, 1) := by decide +kernel
theorem d_LW_law_371 : decode code 371 = .ok (.iadd, 1) := by decide +kernel
theorem d_LW_law_372 : decode code 372 = .ok (.iaload, 1) := by decide +kernel
theorem d_LW_law_373 : decode code 373 = .ok (.i2l, 1) := by decide +kernel
theorem d_LW_law_374 : decode code 374 = .ok (.ldc2_w 13, 3) := by decide +kernel
theorem d_LW_law_377 : decode code 377 = .ok (.land, 1) := by decide +kernel
theorem d_LW_law_378 : decode code 378 = .ok (.lor, 1) := by decide +kernel
theorem d_LW_law_379 : decode code 379 = .ok (.aload_n 0, 1) := by decide +kernel
theorem d_LW_law_380 : decode code 380 = .ok (.iload_n 3, 1) := by decide +kernel
theorem d_LW_law_381 : decode code 381 = .ok (.iconst 3, 1) := by decide +kernel
theorem d_LW_law_382 : decode code 382 = .ok (.iadd, 1) := by decide +kernel
theorem d_LW_law_383 : decode code 383 = .ok (.iaload, 1) := by decide +kernel
theorem d_LW_law_384 : decode code 384 = .ok (.invokevirtual 35, 3) := by decide +kernel
theorem d_LW_law_387 : decode code 387 = .ok (.aload_n 2, 1) := by decide +kernel
theorem d_LW_law_388 : decode code 388 = .ok (.aload_n 0, 1) := by decide +kernel
theorem d_LW_law_389 : decode code 389 = .ok (.iload_n 3, 1) := by decide +kernel
theorem d_LW_law_390 : decode code 390 = .ok (.iconst 1, 1) := by decide +kernel
theorem d_LW_law_391 : decode code 391 = .ok (.iadd, 1) := by decide +kernel
theorem d_LW_law_392 : decode code 392 = .ok (.iaload, 1) := by decide +kernel
theorem d_LW_law_393 : decode code 393 = .ok (.i2l, 1) := by decide +kernel
theorem d_LW_law_394 : decode code 394 = .ok (.bipush 32, 2) := by decide +kernel
theorem d_LW_law_396 : decode code 396 = .ok (.lshl, 1) := by decide +kernel
theorem d_LW_law_397 : decode code 397 = .ok (.aload_n 0, 1) := by decide +kernel
theorem d_LW_law_398 : decode code 398 = .ok (.iload_n 3, 1) := by decide +kernel
theorem d_LW_law_399 : decode code 399 = .ok (.iconst 2, 1) := by decide +kernel
theorem d_LW_law_400 : decode code 400 = .ok (.iadd, 1) := by decide +kernel
theorem d_LW_law_401 : decode code 401 = .ok (.iaload, 1) := by decide +kernel
theorem d_LW_law_402 : decode code 402 = .ok (.i2l, 1) := by decide +kernel
theorem d_LW_law_403 : decode code 403 = .ok (.ldc2_w 13, 3) := by decide +kernel
theorem d_LW_law_406 : decode code 406 = .ok (.land, 1) := by decide +kernel
theorem d_LW_law_407 : decode code 407 = .ok (.lor, 1) := by decide +kernel
theorem d_LW_law_408 : decode code 408 = .ok (.aload_n 0, 1) := by decide +kernel
theorem d_LW_law_409 : decode code 409 = .ok (.iload_n 3, 1) := by decide +kernel
theorem d_LW_law_410 : decode code 410 = .ok (.iconst 3, 1) := by decide +kernel
theorem d_LW_law_411 : decode code 411 = .ok (.iadd, 1) := by decide +kernel
theorem d_LW_law_412 : decode code 412 = .ok (.iaload, 1) := by decide +kernel
theorem d_LW_law_413 : decode code 413 = .ok (.invokevirtual 38, 3) := by decide +kernel
theorem d_LW_law_416 : decode code 416 = .ok (.if_icmp .eq 79, 3) := by decide +kernel
theorem d_LW_law_419 : decode code 419 = .ok (.iconst 0, 1) := by decide +kernel
theorem d_LW_law_420 : decode code 420 = .ok (.ireturn, 1) := by decide +kernel
theorem d_LW_law_421 : decode code 421 = .ok (.aload_n 1, 1) := by decide +kernel
theorem d_LW_law_422 : decode code 422 = .ok (.aload_n 0, 1) := by decide +kernel
theorem d_LW_law_423 : decode code 423 = .ok (.iload_n 3, 1) := by decide +kernel
theorem d_LW_law_424 : decode code 424 = .ok (.iconst 1, 1) := by decide +kernel
theorem d_LW_law_425 : decode code 425 = .ok (.iadd, 1) := by decide +kernel
theorem d_LW_law_426 : decode code 426 = .ok (.iaload, 1) := by decide +kernel
theorem d_LW_law_427 : decode code 427 = .ok (.invokevirtual 39, 3) := by decide +kernel
theorem d_LW_law_430 : decode code 430 = .ok (.aload_n 2, 1) := by decide +kernel
theorem d_LW_law_431 : decode code 431 = .ok (.aload_n 0, 1) := by decide +kernel
theorem d_LW_law_432 : decode code 432 = .ok (.iload_n 3, 1) := by decide +kernel
theorem d_LW_law_433 : decode code 433 = .ok (.iconst 1, 1) := by decide +kernel
theorem d_LW_law_434 : decode code 434 = .ok (.iadd, 1) := by decide +kernel
theorem d_LW_law_435 : decode code 435 = .ok (.iaload, 1) := by decide +kernel
theorem d_LW_law_436 : decode code 436 = .ok (.invokevirtual 43, 3) := by decide +kernel
theorem d_LW_law_439 : decode code 439 = .ok (.lcmp, 1) := by decide +kernel
theorem d_LW_law_440 : decode code 440 = .ok (.ifCond .eq 55, 3) := by decide +kernel
theorem d_LW_law_443 : decode code 443 = .ok (.iconst 0, 1) := by decide +kernel
theorem d_LW_law_444 : decode code 444 = .ok (.ireturn, 1) := by decide +kernel
theorem d_LW_law_445 : decode code 445 = .ok (.aload_n 1, 1) := by decide +kernel
theorem d_LW_law_446 : decode code 446 = .ok (.aload_n 0, 1) := by decide +kernel
theorem d_LW_law_447 : decode code 447 = .ok (.iload_n 3, 1) := by decide +kernel
theorem d_LW_law_448 : decode code 448 = .ok (.iconst 1, 1) := by decide +kernel
theorem d_LW_law_449 : decode code 449 = .ok (.iadd, 1) := by decide +kernel
theorem d_LW_law_450 : decode code 450 = .ok (.iaload, 1) := by decide +kernel
theorem d_LW_law_451 : decode code 451 = .ok (.invokevirtual 44, 3) := by decide +kernel
theorem d_LW_law_454 : decode code 454 = .ok (.aload_n 2, 1) := by decide +kernel
theorem d_LW_law_455 : decode code 455 = .ok (.aload_n 0, 1) := by decide +kernel
theorem d_LW_law_456 : decode code 456 = .ok (.iload_n 3, 1) := by decide +kernel
theorem d_LW_law_457 : decode code 457 = .ok (.iconst 1, 1) := by decide +kernel
theorem d_LW_law_458 : decode code 458 = .ok (.iadd, 1) := by decide +kernel
theorem d_LW_law_459 : decode code 459 = .ok (.iaload, 1) := by decide +kernel
theorem d_LW_law_460 : decode code 460 = .ok (.invokevirtual 47, 3) := by decide +kernel
theorem d_LW_law_463 : decode code 463 = .ok (.if_icmp .eq 32, 3) := by decide +kernel
theorem d_LW_law_466 : decode code 466 = .ok (.iconst 0, 1) := by decide +kernel
theorem d_LW_law_467 : decode code 467 = .ok (.ireturn, 1) := by decide +kernel
theorem d_LW_law_468 : decode code 468 = .ok (.aload_n 1, 1) := by decide +kernel
theorem d_LW_law_469 : decode code 469 = .ok (.invokevirtual 48, 3) := by decide +kernel
theorem d_LW_law_472 : decode code 472 = .ok (.aload_n 2, 1) := by decide +kernel
theorem d_LW_law_473 : decode code 473 = .ok (.invokevirtual 52, 3) := by decide +kernel
theorem d_LW_law_476 : decode code 476 = .ok (.if_icmp .eq 19, 3) := by decide +kernel
theorem d_LW_law_479 : decode code 479 = .ok (.iconst 0, 1) := by decide +kernel
theorem d_LW_law_480 : decode code 480 = .ok (.ireturn, 1) := by decide +kernel
theorem d_LW_law_481 : decode code 481 = .ok (.aload_n 1, 1) := by decide +kernel
theorem d_LW_law_482 : decode code 482 = .ok (.invokevirtual 53, 3) := by decide +kernel
theorem d_LW_law_485 : decode code 485 = .ok (.aload_n 2, 1) := by decide +kernel
theorem d_LW_law_486 : decode code 486 = .ok (.invokevirtual 57, 3) := by decide +kernel
theorem d_LW_law_489 : decode code 489 = .ok (.lcmp, 1) := by decide +kernel
theorem d_LW_law_490 : decode code 490 = .ok (.ifCond .eq 5, 3) := by decide +kernel
theorem d_LW_law_493 : decode code 493 = .ok (.iconst 0, 1) := by decide +kernel
theorem d_LW_law_494 : decode code 494 = .ok (.ireturn, 1) := by decide +kernel
theorem d_LW_law_495 : decode code 495 = .ok (.iinc 3 7, 3) := by decide +kernel
theorem d_LW_law_498 : decode code 498 = .ok (.goto (-480), 3) := by decide +kernel
theorem d_LW_law_501 : decode code 501 = .ok (.iconst 1, 1) := by decide +kernel
theorem d_LW_law_502 : decode code 502 = .ok (.ireturn, 1) := by decide +kernel
end
section
/-! the law: the skeleton up to lw_At (a starting text), then the walk of the law (printed by gen/g20.py) -/
/-! THE CLAIM OUT OF ONE WALK OF THE LAW'S BODY. Your part is whole_start (and what it stands on); all else here is the same for every law, but numbers. -/
def R_law : String := "NameTableLaw"
def lw_P (b : Addr) (xs : List Int32) (args : Array Value) (s : State) : Prop := args = #[.ref b] ∧ s.IntsAt b xs ∧ xs.length ≤ 3584 ∧ (Jvm.Cond.and given_1 narrow_1).before args s = true
def lw_Q (_ : Array Value) (s : State) (o : Outcome) (t : State) : Prop := o = .returned (some (.int 1)) ∧ Framed s o t [] 12 8239
def lw_Z (below : List Frame) (a : Array Value) (s : State) : State → Prop := fun t => ∃ o, t.status = .running ∧ Ended t below o ∧ lw_Q a s o t
/-- the law's own end, with 1 on the stack, nothing written that was there before, its room as the claim has it -/
theorem lw_ret {p : Program} {l : Launch} {e : Env} {s : State} {m : MethodId} {below : List Frame} {meth : Method} {c : Code} {b : Nat} (hx : p.tables.exec = Jvm.exec) (hb : c.code = code) (hr : meth.sig.returnType = ret) (hlocks : meth.locks = false) {pc : Nat} {H : Heap} {ls : Array Slot} (hdg : decode code pc = .ok (.ireturn, 1)) : W p l e room_1 s m #[Value.ref b] below meth c H [] 12 8239 (lw_Z below #[Value.ref b] s) (F0 m pc ls [.int 1]) := by
  intro T hT X
  obtain ⟨fs, hret, hrun, hended, hW, hframe⟩ := X.leave (v := some (.int 1)) (hlocks := hlocks) (fun h => by rw [hr] at h; cases h)
  have hmeth' : T.vm.method? m = some meth := X.method'
  refine ⟨T.setFrames fs, ?_, .returned (some (.int 1)), hrun, hended, rfl, ⟨_, rfl⟩, hW, hframe⟩
  jvm_step X.here [X.here.top, hx, hb, hdg, hmeth', hr, ret, narrow_b1]
  (try refine ⟨rfl, ?_⟩); (try refine ⟨rfl, ?_⟩)
  first | (intro acts; rw [hret _ acts rfl rfl rfl]) | rw [hret _ _ rfl rfl rfl]
  exact Steps.refl _
/-- what holds at the law's entry: the machine, the code, the tables' words (any of lw_tbl by 'hts w (by decide +kernel)'), the script of L ints xs at the cell b, what the Statement gives of the start (any of its parts by flat_of_before) -/
def lw_At (p : Program) (s : State) (m : MethodId) (meth : Method) (c : Code) (b L : Nat) (xs : Nat → Int32) : Prop :=
  p.tables.exec = Jvm.exec ∧ c.code = code ∧ meth.sig.returnType = ret ∧ c.maxLocals = 4 ∧ s.vm.findClass R_law = some m.cls ∧ (∀ w ∈ lw_tbl, w.before #[Value.ref b] s = true) ∧ va_X b L xs s s.heap ∧ b < s.heap.size ∧ meth.locks = false ∧ (Jvm.Cond.and given_1 narrow_1).before #[Value.ref b] s = true
/-- a name out of two ints -/
def nm (x y : Int32) : Int64 := (x.toInt64 <<< ((32 : Int32).toInt64 &&& 63)) ||| (y.toInt64 &&& 4294967295)
theorem xs_ld {p : Program} {l : Launch} {e : Env} {R : Room} {s : State} {m : MethodId} {args : Array Value} {below : List Frame} {meth : Method} {c : Code} {H : Heap} {locs : List Loc} {cells slots : Nat} {Q : State → Prop} {cc : ByteArray} {pc : Nat} {ls : Array Slot} {rest : List Value} {A : Nat → Prop} {H0 : Heap}
    (hexec : p.tables.exec = Jvm.exec) (hb : c.code = cc) {b L : Nat} {xs : Nat → Int32} (hX : va_X b L xs s H0) (hbl : b < H0.size) (hbA : ¬ A b) (hS : va_S A H0 H locs) {i : Int32} (k : Nat) (hi : i = nI k) (hk : k < L) (hL : L < 2 ^ 31) (hdg : decode cc pc = .ok (.iaload, 1))
    (kk : W p l e R s m args below meth c H locs cells slots Q (F0 m (pc + 1) ls (.int (xs k) :: rest))) : W p l e R s m args below meth c H locs cells slots Q (F0 m pc ls (.int i :: .ref b :: rest)) := by
  subst hi
  refine va_sld hexec hb hX hbl hbA hS (vp_in_nI hk hL) hdg ?_
  rw [nI_clamp (by omega)]
  exact kk
theorem nv_lim {L i : Nat} (hL : L ≤ 3584) (hi : i ≤ L) : nI L - nI 7 < nI i ↔ L < i + 7 := by
  rw [Int32.lt_iff_toInt_lt, pk_sub_toInt (by omega) (by decide), nI_toInt (by omega)]
  omega
theorem nv_i7 (i : Nat) : nI i + Int32.ofInt 7 = nI (i + 7) := nI_add i 7
set_option maxHeartbeats 16000000 in
set_option maxRecDepth 100000 in
/-- the law's loop: from its head with two objects that hold the same row it comes to its end with true -/
theorem law_loop {p : Program} {e : Env} {s : State} {m : MethodId} {below : List Frame} {meth : Method} {c : Code} (l : Launch) {b L : Nat} {xs : Nat → Int32} (hL : L ≤ 3584)
    (hx : p.tables.exec = Jvm.exec) (hb : c.code = code) (hr : meth.sig.returnType = ret) (hml : c.maxLocals = 4) (hown : s.vm.findClass "NameTableLaw" = some m.cls) (hts : ∀ w ∈ tg, w.before #[Value.ref b] s = true) (hX : va_X b L xs s s.heap) (hbl : b < s.heap.size) (hlocks : meth.locks = false)
    {A : Nat → Prop} (hbA : ¬ A b) (hAs : ∀ q, A q → s.heap.size ≤ q) (D : va_G) (cL cI : ClassId) (hk : wk D cL cI s) (ax : Nat) (ad am : Nat → Nat) :
    ∀ (d i : Nat) (u : CS) (a : AS) (ls : Array Slot) (H : Heap) (locs : List Loc), L - i = d → i ≤ L → relS u a → lv_has ls 4 [(0, .ref b), (1, .ref ax), (2, .ref (am 0)), (3, .int (nI i))] → va_P D classes (wX ax ad cL cI u ++ wA am cL cI a) H → va_D A (wX ax ad cL cI u ++ wA am cL cI a) → va_S A s.heap H locs →
      W p l e room_1 s m #[Value.ref b] below meth c H locs 12 8239 (lw_Z below #[Value.ref b] s) (F0 m 18 ls []) := by
  intro d
  induction d using Nat.strongRecOn with
  | _ d ih =>
    intro i u a ls H locs hd hiL hrel hl hP hD hS
    refine lv_iload_n hx hb d_LW_law_18 rfl (lv_at hl 3 rfl) ?_
    refine lv_aload_n hx hb d_LW_law_19 rfl (lv_at hl 0 rfl) ?_
    refine va_slen hx hb hX hbl hbA hS d_LW_law_20 ?_
    refine lv_bipush (v := nI 7) hx hb d_LW_law_21 (by decide +kernel) ?_
    refine lv_isub hx hb d_LW_law_23 ?_
    refine lv_icmp_gt (tgt := 501) hx hb d_LW_law_24 (by decide) (fun g1 => ?_) (fun g1 => ?_)
    · refine lv_iconst (v := 1) hx hb d_LW_law_501 (by decide +kernel) ?_
      refine va_forget (fun q hq => hAs _ (hS.2.2 q hq)) ?_
      exact lw_ret hx hb hr hlocks d_LW_law_502
    · have g1 : i + 7 ≤ L := Nat.le_of_not_lt (fun q => g1 ((nv_lim hL hiL).mpr q))
      have k495 : ∀ (u : CS) (a : AS) (H : Heap) (locs : List Loc), relS u a → va_P D classes (wX ax ad cL cI u ++ wA am cL cI a) H → va_D A (wX ax ad cL cI u ++ wA am cL cI a) → va_S A s.heap H locs → W p l e room_1 s m #[Value.ref b] below meth c H locs 12 8239 (lw_Z below #[Value.ref b] s) (F0 m 495 ls []) := by
        intro u a H locs hrel hP hD hS
        refine lv_iinc (k := 3) (v := nI (i + 7)) (lv' := [(3, .int (nI (i + 7))), (0, .ref b), (1, .ref ax), (2, .ref (am 0))]) hx hb d_LW_law_495 hl rfl (nv_i7 _) (by decide) rfl (fun ls hl => ?_)
        refine lv_goto (tgt := 18) hx hb d_LW_law_498 (by decide) ?_
        have hl := lv_sub hl (l' := [(0, .ref b), (1, .ref ax), (2, .ref (am 0)), (3, .int (nI (i + 7)))]) [1, 2, 3, 0] rfl
        exact ih (L - (i + 7)) (by omega) (i + 7) u a ls H locs rfl g1 hrel hl hP hD hS
      have h9 : a.1 ≤ 900 := hrel.2.2.2.1.1
      refine lv_aload_n hx hb d_LW_law_27 rfl (lv_at hl 0 rfl) ?_
      refine lv_iload_n hx hb d_LW_law_28 rfl (lv_at hl 3 rfl) ?_
      refine xs_ld hx hb hX hbl hbA hS (i) rfl (by omega) (by omega) d_LW_law_29 ?_
      refine lv_bipush (v := nI 15) hx hb d_LW_law_30 (by decide +kernel) ?_
      refine lv_iand hx hb d_LW_law_32 ?_
      obtain ⟨w, hw16, hwe⟩ := pk_andE (xs i) (m := nI 15) 4 (by decide +kernel)
      refine lv_repi (nI w) (hwe) ?_
      rcases (show w = 0 ∨ w = 1 ∨ w = 2 ∨ w = 3 ∨ w = 4 ∨ w = 5 ∨ w = 6 ∨ w = 7 ∨ w = 8 ∨ 9 ≤ w by omega) with rfl | rfl | rfl | rfl | rfl | rfl | rfl | rfl | rfl | hw
      · refine lv_tableIn (tgt := 84) (off := 51) hx hb d_LW_law_33 (by decide +kernel) (by decide +kernel) (by decide +kernel) (by decide) ?_
        refine lv_aload_n hx hb d_LW_law_84 rfl (lv_at hl 1 rfl) ?_
        refine lv_aload_n hx hb d_LW_law_85 rfl (lv_at hl 0 rfl) ?_
        refine lv_iload_n hx hb d_LW_law_86 rfl (lv_at hl 3 rfl) ?_
        refine lv_iconst (v := nI 1) hx hb d_LW_law_87 (by decide +kernel) ?_
        refine lv_iadd hx hb d_LW_law_88 ?_
        refine lv_repi (nI (i + 1)) (nI_add _ _) ?_
        refine xs_ld hx hb hX hbl hbA hS (i + 1) rfl (by omega) (by omega) d_LW_law_89 ?_
        refine lv_i2l (v := (xs (i + 1)).toInt64) hx hb d_LW_law_90 rfl ?_
        refine lv_bipush (v := (32 : Int32)) hx hb d_LW_law_91 (by decide +kernel) ?_
        refine lv_lshl (v := ((xs (i + 1)).toInt64) <<< ((32 : Int32).toInt64 &&& 63)) hx hb d_LW_law_93 rfl ?_
        refine lv_aload_n hx hb d_LW_law_94 rfl (lv_at hl 0 rfl) ?_
        refine lv_iload_n hx hb d_LW_law_95 rfl (lv_at hl 3 rfl) ?_
        refine lv_iconst (v := nI 2) hx hb d_LW_law_96 (by decide +kernel) ?_
        refine lv_iadd hx hb d_LW_law_97 ?_
        refine lv_repi (nI (i + 2)) (nI_add _ _) ?_
        refine xs_ld hx hb hX hbl hbA hS (i + 2) rfl (by omega) (by omega) d_LW_law_98 ?_
        refine lv_i2l (v := (xs (i + 2)).toInt64) hx hb d_LW_law_99 rfl ?_
        refine lv_ldc2 (v := 4294967295) hx hb hown (hts _ m_209) d_LW_law_100 ?_
        refine lv_land hx hb d_LW_law_103 ?_
        refine lv_lor hx hb d_LW_law_104 ?_
        refine lv_repl (nm (xs (i + 1)) (xs (i + 2))) (rfl) ?_
        refine lv_aload_n hx hb d_LW_law_105 rfl (lv_at hl 0 rfl) ?_
        refine lv_iload_n hx hb d_LW_law_106 rfl (lv_at hl 3 rfl) ?_
        refine lv_iconst (v := nI 3) hx hb d_LW_law_107 (by decide +kernel) ?_
        refine lv_iadd hx hb d_LW_law_108 ?_
        refine lv_repi (nI (i + 3)) (nI_add _ _) ?_
        refine xs_ld hx hb hX hbl hbA hS (i + 3) rfl (by omega) (by omega) d_LW_law_109 ?_
        refine lv_aload_n hx hb d_LW_law_110 rfl (lv_at hl 0 rfl) ?_
        refine lv_iload_n hx hb d_LW_law_111 rfl (lv_at hl 3 rfl) ?_
        refine lv_iconst (v := nI 4) hx hb d_LW_law_112 (by decide +kernel) ?_
        refine lv_iadd hx hb d_LW_law_113 ?_
        refine lv_repi (nI (i + 4)) (nI_add _ _) ?_
        refine xs_ld hx hb hX hbl hbA hS (i + 4) rfl (by omega) (by omega) d_LW_law_114 ?_
        refine ct_callV (w1 := []) (wc := (wX ax ad cL cI u)) (w2 := (wA am cL cI a)) (As := [.long (nm (xs (i + 1)) (xs (i + 2))), .int (xs (i + 3)), .int (xs (i + 4))]) (rest := []) hx hb hml hown hts hk (c_NT_add l D ax ad cL cI u a hrel (nm (xs (i + 1)) (xs (i + 2))) (xs (i + 3)) (xs (i + 4))) 3 m_63 m_1 m_60 m_61 m_62 (by decide +kernel) ⟨Nat.le_of_ble_eq_true rfl, Nat.le_of_ble_eq_true rfl⟩ ⟨rfl, rfl⟩ rfl rfl rfl hl.1 rfl (Nat.le_of_ble_eq_true rfl) d_LW_law_115 ⟨Nat.le_of_ble_eq_true rfl, Nat.le_of_ble_eq_true rfl⟩ hP hD hS (fun _ => rfl) (fun v u H locs hv hP hD hS => ?_)
        obtain ⟨rfl, hrel2⟩ := hv
        refine W.eq (g2 := F0 m 118 ls [.int ((a_add a (nm (xs (i + 1)) (xs (i + 2))) (xs (i + 3)) (xs (i + 4))).1)]) rfl ?_
        refine lv_aload_n hx hb d_LW_law_118 rfl (lv_at hl 2 rfl) ?_
        refine lv_aload_n hx hb d_LW_law_119 rfl (lv_at hl 0 rfl) ?_
        refine lv_iload_n hx hb d_LW_law_120 rfl (lv_at hl 3 rfl) ?_
        refine lv_iconst (v := nI 1) hx hb d_LW_law_121 (by decide +kernel) ?_
        refine lv_iadd hx hb d_LW_law_122 ?_
        refine lv_repi (nI (i + 1)) (nI_add _ _) ?_
        refine xs_ld hx hb hX hbl hbA hS (i + 1) rfl (by omega) (by omega) d_LW_law_123 ?_
        refine lv_i2l (v := (xs (i + 1)).toInt64) hx hb d_LW_law_124 rfl ?_
        refine lv_bipush (v := (32 : Int32)) hx hb d_LW_law_125 (by decide +kernel) ?_
        refine lv_lshl (v := ((xs (i + 1)).toInt64) <<< ((32 : Int32).toInt64 &&& 63)) hx hb d_LW_law_127 rfl ?_
        refine lv_aload_n hx hb d_LW_law_128 rfl (lv_at hl 0 rfl) ?_
        refine lv_iload_n hx hb d_LW_law_129 rfl (lv_at hl 3 rfl) ?_
        refine lv_iconst (v := nI 2) hx hb d_LW_law_130 (by decide +kernel) ?_
        refine lv_iadd hx hb d_LW_law_131 ?_
        refine lv_repi (nI (i + 2)) (nI_add _ _) ?_
        refine xs_ld hx hb hX hbl hbA hS (i + 2) rfl (by omega) (by omega) d_LW_law_132 ?_
        refine lv_i2l (v := (xs (i + 2)).toInt64) hx hb d_LW_law_133 rfl ?_
        refine lv_ldc2 (v := 4294967295) hx hb hown (hts _ m_209) d_LW_law_134 ?_
        refine lv_land hx hb d_LW_law_137 ?_
        refine lv_lor hx hb d_LW_law_138 ?_
        refine lv_repl (nm (xs (i + 1)) (xs (i + 2))) (rfl) ?_
        refine lv_aload_n hx hb d_LW_law_139 rfl (lv_at hl 0 rfl) ?_
        refine lv_iload_n hx hb d_LW_law_140 rfl (lv_at hl 3 rfl) ?_
        refine lv_iconst (v := nI 3) hx hb d_LW_law_141 (by decide +kernel) ?_
        refine lv_iadd hx hb d_LW_law_142 ?_
        refine lv_repi (nI (i + 3)) (nI_add _ _) ?_
        refine xs_ld hx hb hX hbl hbA hS (i + 3) rfl (by omega) (by omega) d_LW_law_143 ?_
        refine lv_aload_n hx hb d_LW_law_144 rfl (lv_at hl 0 rfl) ?_
        refine lv_iload_n hx hb d_LW_law_145 rfl (lv_at hl 3 rfl) ?_
        refine lv_iconst (v := nI 4) hx hb d_LW_law_146 (by decide +kernel) ?_
        refine lv_iadd hx hb d_LW_law_147 ?_
        refine lv_repi (nI (i + 4)) (nI_add _ _) ?_
        refine xs_ld hx hb hX hbl hbA hS (i + 4) rfl (by omega) (by omega) d_LW_law_148 ?_
        have hP : va_P D classes (wX ax ad cL cI u ++ wA am cL cI a ++ []) H := by rw [List.append_nil]; exact hP
        have hD : va_D A (wX ax ad cL cI u ++ wA am cL cI a ++ []) := by rw [List.append_nil]; exact hD
        refine ct_callV (w1 := (wX ax ad cL cI u)) (wc := (wA am cL cI a)) (w2 := []) (As := [.long (nm (xs (i + 1)) (xs (i + 2))), .int (xs (i + 3)), .int (xs (i + 4))]) (rest := [.int ((a_add a (nm (xs (i + 1)) (xs (i + 2))) (xs (i + 3)) (xs (i + 4))).1)]) hx hb hml hown hts hk (c_MO_add l D am cL cI a h9 (nm (xs (i + 1)) (xs (i + 2))) (xs (i + 3)) (xs (i + 4))) 3 m_163 m_3 m_160 m_161 m_162 (by decide +kernel) ⟨Nat.le_of_ble_eq_true rfl, Nat.le_of_ble_eq_true rfl⟩ ⟨rfl, rfl⟩ rfl rfl rfl hl.1 rfl (Nat.le_of_ble_eq_true rfl) d_LW_law_149 ⟨Nat.le_of_ble_eq_true rfl, Nat.le_of_ble_eq_true rfl⟩ hP hD hS (fun _ => rfl) (fun v u H locs hv hP hD hS => ?_)
        obtain ⟨rfl, hv⟩ := hv
        rw [hv] at hP hD
        refine W.eq (g2 := F0 m 152 ls [.int ((a_add a (nm (xs (i + 1)) (xs (i + 2))) (xs (i + 3)) (xs (i + 4))).1), .int ((a_add a (nm (xs (i + 1)) (xs (i + 2))) (xs (i + 3)) (xs (i + 4))).1)]) rfl ?_
        rw [List.append_nil] at hP hD
        refine lv_icmp_eq (tgt := 495) hx hb d_LW_law_152 (by decide) (fun g2 => ?_) (fun g2 => ?_)
        · exact k495 _ _ H locs hrel2 hP hD hS
        · exact absurd rfl g2
      · refine lv_tableIn (tgt := 157) (off := 124) hx hb d_LW_law_33 (by decide +kernel) (by decide +kernel) (by decide +kernel) (by decide) ?_
        refine lv_aload_n hx hb d_LW_law_157 rfl (lv_at hl 1 rfl) ?_
        refine lv_aload_n hx hb d_LW_law_158 rfl (lv_at hl 0 rfl) ?_
        refine lv_iload_n hx hb d_LW_law_159 rfl (lv_at hl 3 rfl) ?_
        refine lv_iconst (v := nI 1) hx hb d_LW_law_160 (by decide +kernel) ?_
        refine lv_iadd hx hb d_LW_law_161 ?_
        refine lv_repi (nI (i + 1)) (nI_add _ _) ?_
        refine xs_ld hx hb hX hbl hbA hS (i + 1) rfl (by omega) (by omega) d_LW_law_162 ?_
        refine lv_i2l (v := (xs (i + 1)).toInt64) hx hb d_LW_law_163 rfl ?_
        refine lv_bipush (v := (32 : Int32)) hx hb d_LW_law_164 (by decide +kernel) ?_
        refine lv_lshl (v := ((xs (i + 1)).toInt64) <<< ((32 : Int32).toInt64 &&& 63)) hx hb d_LW_law_166 rfl ?_
        refine lv_aload_n hx hb d_LW_law_167 rfl (lv_at hl 0 rfl) ?_
        refine lv_iload_n hx hb d_LW_law_168 rfl (lv_at hl 3 rfl) ?_
        refine lv_iconst (v := nI 2) hx hb d_LW_law_169 (by decide +kernel) ?_
        refine lv_iadd hx hb d_LW_law_170 ?_
        refine lv_repi (nI (i + 2)) (nI_add _ _) ?_
        refine xs_ld hx hb hX hbl hbA hS (i + 2) rfl (by omega) (by omega) d_LW_law_171 ?_
        refine lv_i2l (v := (xs (i + 2)).toInt64) hx hb d_LW_law_172 rfl ?_
        refine lv_ldc2 (v := 4294967295) hx hb hown (hts _ m_209) d_LW_law_173 ?_
        refine lv_land hx hb d_LW_law_176 ?_
        refine lv_lor hx hb d_LW_law_177 ?_
        refine lv_repl (nm (xs (i + 1)) (xs (i + 2))) (rfl) ?_
        refine lv_aload_n hx hb d_LW_law_178 rfl (lv_at hl 0 rfl) ?_
        refine lv_iload_n hx hb d_LW_law_179 rfl (lv_at hl 3 rfl) ?_
        refine lv_iconst (v := nI 3) hx hb d_LW_law_180 (by decide +kernel) ?_
        refine lv_iadd hx hb d_LW_law_181 ?_
        refine lv_repi (nI (i + 3)) (nI_add _ _) ?_
        refine xs_ld hx hb hX hbl hbA hS (i + 3) rfl (by omega) (by omega) d_LW_law_182 ?_
        refine lv_i2l (v := (xs (i + 3)).toInt64) hx hb d_LW_law_183 rfl ?_
        refine lv_bipush (v := (32 : Int32)) hx hb d_LW_law_184 (by decide +kernel) ?_
        refine lv_lshl (v := ((xs (i + 3)).toInt64) <<< ((32 : Int32).toInt64 &&& 63)) hx hb d_LW_law_186 rfl ?_
        refine lv_aload_n hx hb d_LW_law_187 rfl (lv_at hl 0 rfl) ?_
        refine lv_iload_n hx hb d_LW_law_188 rfl (lv_at hl 3 rfl) ?_
        refine lv_iconst (v := nI 4) hx hb d_LW_law_189 (by decide +kernel) ?_
        refine lv_iadd hx hb d_LW_law_190 ?_
        refine lv_repi (nI (i + 4)) (nI_add _ _) ?_
        refine xs_ld hx hb hX hbl hbA hS (i + 4) rfl (by omega) (by omega) d_LW_law_191 ?_
        refine lv_i2l (v := (xs (i + 4)).toInt64) hx hb d_LW_law_192 rfl ?_
        refine lv_ldc2 (v := 4294967295) hx hb hown (hts _ m_209) d_LW_law_193 ?_
        refine lv_land hx hb d_LW_law_196 ?_
        refine lv_lor hx hb d_LW_law_197 ?_
        refine lv_repl (nm (xs (i + 3)) (xs (i + 4))) (rfl) ?_
        refine lv_aload_n hx hb d_LW_law_198 rfl (lv_at hl 0 rfl) ?_
        refine lv_iload_n hx hb d_LW_law_199 rfl (lv_at hl 3 rfl) ?_
        refine lv_iconst (v := nI 5) hx hb d_LW_law_200 (by decide +kernel) ?_
        refine lv_iadd hx hb d_LW_law_201 ?_
        refine lv_repi (nI (i + 5)) (nI_add _ _) ?_
        refine xs_ld hx hb hX hbl hbA hS (i + 5) rfl (by omega) (by omega) d_LW_law_202 ?_
        refine lv_aload_n hx hb d_LW_law_203 rfl (lv_at hl 0 rfl) ?_
        refine lv_iload_n hx hb d_LW_law_204 rfl (lv_at hl 3 rfl) ?_
        refine lv_bipush (v := nI 6) hx hb d_LW_law_205 (by decide +kernel) ?_
        refine lv_iadd hx hb d_LW_law_207 ?_
        refine lv_repi (nI (i + 6)) (nI_add _ _) ?_
        refine xs_ld hx hb hX hbl hbA hS (i + 6) rfl (by omega) (by omega) d_LW_law_208 ?_
        refine ct_callV (w1 := []) (wc := (wX ax ad cL cI u)) (w2 := (wA am cL cI a)) (As := [.long (nm (xs (i + 1)) (xs (i + 2))), .long (nm (xs (i + 3)) (xs (i + 4))), .int (xs (i + 5)), .int (xs (i + 6))]) (rest := []) hx hb hml hown hts hk (c_NT_some l D ax ad cL cI u a hrel (nm (xs (i + 1)) (xs (i + 2))) (nm (xs (i + 3)) (xs (i + 4))) (xs (i + 5)) (xs (i + 6))) 4 m_90 m_1 m_87 m_88 m_89 (by decide +kernel) ⟨Nat.le_of_ble_eq_true rfl, Nat.le_of_ble_eq_true rfl⟩ ⟨rfl, rfl⟩ rfl rfl rfl hl.1 rfl (Nat.le_of_ble_eq_true rfl) d_LW_law_209 ⟨Nat.le_of_ble_eq_true rfl, Nat.le_of_ble_eq_true rfl⟩ hP hD hS (fun _ => rfl) (fun v u H locs hv hP hD hS => ?_)
        obtain ⟨rfl, hrel2⟩ := hv
        refine W.eq (g2 := F0 m 212 ls [.int ((a_some a (nm (xs (i + 1)) (xs (i + 2))) (nm (xs (i + 3)) (xs (i + 4))) (xs (i + 5)) (xs (i + 6))).1)]) rfl ?_
        refine lv_aload_n hx hb d_LW_law_212 rfl (lv_at hl 2 rfl) ?_
        refine lv_aload_n hx hb d_LW_law_213 rfl (lv_at hl 0 rfl) ?_
        refine lv_iload_n hx hb d_LW_law_214 rfl (lv_at hl 3 rfl) ?_
        refine lv_iconst (v := nI 1) hx hb d_LW_law_215 (by decide +kernel) ?_
        refine lv_iadd hx hb d_LW_law_216 ?_
        refine lv_repi (nI (i + 1)) (nI_add _ _) ?_
        refine xs_ld hx hb hX hbl hbA hS (i + 1) rfl (by omega) (by omega) d_LW_law_217 ?_
        refine lv_i2l (v := (xs (i + 1)).toInt64) hx hb d_LW_law_218 rfl ?_
        refine lv_bipush (v := (32 : Int32)) hx hb d_LW_law_219 (by decide +kernel) ?_
        refine lv_lshl (v := ((xs (i + 1)).toInt64) <<< ((32 : Int32).toInt64 &&& 63)) hx hb d_LW_law_221 rfl ?_
        refine lv_aload_n hx hb d_LW_law_222 rfl (lv_at hl 0 rfl) ?_
        refine lv_iload_n hx hb d_LW_law_223 rfl (lv_at hl 3 rfl) ?_
        refine lv_iconst (v := nI 2) hx hb d_LW_law_224 (by decide +kernel) ?_
        refine lv_iadd hx hb d_LW_law_225 ?_
        refine lv_repi (nI (i + 2)) (nI_add _ _) ?_
        refine xs_ld hx hb hX hbl hbA hS (i + 2) rfl (by omega) (by omega) d_LW_law_226 ?_
        refine lv_i2l (v := (xs (i + 2)).toInt64) hx hb d_LW_law_227 rfl ?_
        refine lv_ldc2 (v := 4294967295) hx hb hown (hts _ m_209) d_LW_law_228 ?_
        refine lv_land hx hb d_LW_law_231 ?_
        refine lv_lor hx hb d_LW_law_232 ?_
        refine lv_repl (nm (xs (i + 1)) (xs (i + 2))) (rfl) ?_
        refine lv_aload_n hx hb d_LW_law_233 rfl (lv_at hl 0 rfl) ?_
        refine lv_iload_n hx hb d_LW_law_234 rfl (lv_at hl 3 rfl) ?_
        refine lv_iconst (v := nI 3) hx hb d_LW_law_235 (by decide +kernel) ?_
        refine lv_iadd hx hb d_LW_law_236 ?_
        refine lv_repi (nI (i + 3)) (nI_add _ _) ?_
        refine xs_ld hx hb hX hbl hbA hS (i + 3) rfl (by omega) (by omega) d_LW_law_237 ?_
        refine lv_i2l (v := (xs (i + 3)).toInt64) hx hb d_LW_law_238 rfl ?_
        refine lv_bipush (v := (32 : Int32)) hx hb d_LW_law_239 (by decide +kernel) ?_
        refine lv_lshl (v := ((xs (i + 3)).toInt64) <<< ((32 : Int32).toInt64 &&& 63)) hx hb d_LW_law_241 rfl ?_
        refine lv_aload_n hx hb d_LW_law_242 rfl (lv_at hl 0 rfl) ?_
        refine lv_iload_n hx hb d_LW_law_243 rfl (lv_at hl 3 rfl) ?_
        refine lv_iconst (v := nI 4) hx hb d_LW_law_244 (by decide +kernel) ?_
        refine lv_iadd hx hb d_LW_law_245 ?_
        refine lv_repi (nI (i + 4)) (nI_add _ _) ?_
        refine xs_ld hx hb hX hbl hbA hS (i + 4) rfl (by omega) (by omega) d_LW_law_246 ?_
        refine lv_i2l (v := (xs (i + 4)).toInt64) hx hb d_LW_law_247 rfl ?_
        refine lv_ldc2 (v := 4294967295) hx hb hown (hts _ m_209) d_LW_law_248 ?_
        refine lv_land hx hb d_LW_law_251 ?_
        refine lv_lor hx hb d_LW_law_252 ?_
        refine lv_repl (nm (xs (i + 3)) (xs (i + 4))) (rfl) ?_
        refine lv_aload_n hx hb d_LW_law_253 rfl (lv_at hl 0 rfl) ?_
        refine lv_iload_n hx hb d_LW_law_254 rfl (lv_at hl 3 rfl) ?_
        refine lv_iconst (v := nI 5) hx hb d_LW_law_255 (by decide +kernel) ?_
        refine lv_iadd hx hb d_LW_law_256 ?_
        refine lv_repi (nI (i + 5)) (nI_add _ _) ?_
        refine xs_ld hx hb hX hbl hbA hS (i + 5) rfl (by omega) (by omega) d_LW_law_257 ?_
        refine lv_aload_n hx hb d_LW_law_258 rfl (lv_at hl 0 rfl) ?_
        refine lv_iload_n hx hb d_LW_law_259 rfl (lv_at hl 3 rfl) ?_
        refine lv_bipush (v := nI 6) hx hb d_LW_law_260 (by decide +kernel) ?_
        refine lv_iadd hx hb d_LW_law_262 ?_
        refine lv_repi (nI (i + 6)) (nI_add _ _) ?_
        refine xs_ld hx hb hX hbl hbA hS (i + 6) rfl (by omega) (by omega) d_LW_law_263 ?_
        have hP : va_P D classes (wX ax ad cL cI u ++ wA am cL cI a ++ []) H := by rw [List.append_nil]; exact hP
        have hD : va_D A (wX ax ad cL cI u ++ wA am cL cI a ++ []) := by rw [List.append_nil]; exact hD
        refine ct_callV (w1 := (wX ax ad cL cI u)) (wc := (wA am cL cI a)) (w2 := []) (As := [.long (nm (xs (i + 1)) (xs (i + 2))), .long (nm (xs (i + 3)) (xs (i + 4))), .int (xs (i + 5)), .int (xs (i + 6))]) (rest := [.int ((a_some a (nm (xs (i + 1)) (xs (i + 2))) (nm (xs (i + 3)) (xs (i + 4))) (xs (i + 5)) (xs (i + 6))).1)]) hx hb hml hown hts hk (c_MO_some l D am cL cI a h9 (nm (xs (i + 1)) (xs (i + 2))) (nm (xs (i + 3)) (xs (i + 4))) (xs (i + 5)) (xs (i + 6))) 4 m_175 m_3 m_172 m_173 m_174 (by decide +kernel) ⟨Nat.le_of_ble_eq_true rfl, Nat.le_of_ble_eq_true rfl⟩ ⟨rfl, rfl⟩ rfl rfl rfl hl.1 rfl (Nat.le_of_ble_eq_true rfl) d_LW_law_264 ⟨Nat.le_of_ble_eq_true rfl, Nat.le_of_ble_eq_true rfl⟩ hP hD hS (fun _ => rfl) (fun v u H locs hv hP hD hS => ?_)
        obtain ⟨rfl, hv⟩ := hv
        rw [hv] at hP hD
        refine W.eq (g2 := F0 m 267 ls [.int ((a_some a (nm (xs (i + 1)) (xs (i + 2))) (nm (xs (i + 3)) (xs (i + 4))) (xs (i + 5)) (xs (i + 6))).1), .int ((a_some a (nm (xs (i + 1)) (xs (i + 2))) (nm (xs (i + 3)) (xs (i + 4))) (xs (i + 5)) (xs (i + 6))).1)]) rfl ?_
        rw [List.append_nil] at hP hD
        refine lv_icmp_eq (tgt := 495) hx hb d_LW_law_267 (by decide) (fun g2 => ?_) (fun g2 => ?_)
        · exact k495 _ _ H locs hrel2 hP hD hS
        · exact absurd rfl g2
      · refine lv_tableIn (tgt := 272) (off := 239) hx hb d_LW_law_33 (by decide +kernel) (by decide +kernel) (by decide +kernel) (by decide) ?_
        refine lv_aload_n hx hb d_LW_law_272 rfl (lv_at hl 1 rfl) ?_
        refine lv_aload_n hx hb d_LW_law_273 rfl (lv_at hl 0 rfl) ?_
        refine lv_iload_n hx hb d_LW_law_274 rfl (lv_at hl 3 rfl) ?_
        refine lv_iconst (v := nI 1) hx hb d_LW_law_275 (by decide +kernel) ?_
        refine lv_iadd hx hb d_LW_law_276 ?_
        refine lv_repi (nI (i + 1)) (nI_add _ _) ?_
        refine xs_ld hx hb hX hbl hbA hS (i + 1) rfl (by omega) (by omega) d_LW_law_277 ?_
        refine lv_i2l (v := (xs (i + 1)).toInt64) hx hb d_LW_law_278 rfl ?_
        refine lv_bipush (v := (32 : Int32)) hx hb d_LW_law_279 (by decide +kernel) ?_
        refine lv_lshl (v := ((xs (i + 1)).toInt64) <<< ((32 : Int32).toInt64 &&& 63)) hx hb d_LW_law_281 rfl ?_
        refine lv_aload_n hx hb d_LW_law_282 rfl (lv_at hl 0 rfl) ?_
        refine lv_iload_n hx hb d_LW_law_283 rfl (lv_at hl 3 rfl) ?_
        refine lv_iconst (v := nI 2) hx hb d_LW_law_284 (by decide +kernel) ?_
        refine lv_iadd hx hb d_LW_law_285 ?_
        refine lv_repi (nI (i + 2)) (nI_add _ _) ?_
        refine xs_ld hx hb hX hbl hbA hS (i + 2) rfl (by omega) (by omega) d_LW_law_286 ?_
        refine lv_i2l (v := (xs (i + 2)).toInt64) hx hb d_LW_law_287 rfl ?_
        refine lv_ldc2 (v := 4294967295) hx hb hown (hts _ m_209) d_LW_law_288 ?_
        refine lv_land hx hb d_LW_law_291 ?_
        refine lv_lor hx hb d_LW_law_292 ?_
        refine lv_repl (nm (xs (i + 1)) (xs (i + 2))) (rfl) ?_
        refine lv_aload_n hx hb d_LW_law_293 rfl (lv_at hl 0 rfl) ?_
        refine lv_iload_n hx hb d_LW_law_294 rfl (lv_at hl 3 rfl) ?_
        refine lv_iconst (v := nI 3) hx hb d_LW_law_295 (by decide +kernel) ?_
        refine lv_iadd hx hb d_LW_law_296 ?_
        refine lv_repi (nI (i + 3)) (nI_add _ _) ?_
        refine xs_ld hx hb hX hbl hbA hS (i + 3) rfl (by omega) (by omega) d_LW_law_297 ?_
        refine ct_callV (w1 := []) (wc := (wX ax ad cL cI u)) (w2 := (wA am cL cI a)) (As := [.long (nm (xs (i + 1)) (xs (i + 2))), .int (xs (i + 3))]) (rest := []) hx hb hml hown hts hk (c_NT_remove l D ax ad cL cI u a hrel (nm (xs (i + 1)) (xs (i + 2))) (xs (i + 3))) 2 m_95 m_1 m_92 m_93 m_94 (by decide +kernel) ⟨Nat.le_of_ble_eq_true rfl, Nat.le_of_ble_eq_true rfl⟩ ⟨rfl, rfl⟩ rfl rfl rfl hl.1 rfl (Nat.le_of_ble_eq_true rfl) d_LW_law_298 ⟨Nat.le_of_ble_eq_true rfl, Nat.le_of_ble_eq_true rfl⟩ hP hD hS (fun _ => rfl) (fun v u H locs hv hP hD hS => ?_)
        obtain ⟨rfl, hrel2⟩ := hv
        refine W.eq (g2 := F0 m 301 ls [.int ((a_rem a (nm (xs (i + 1)) (xs (i + 2))) (xs (i + 3))).1)]) rfl ?_
        refine lv_aload_n hx hb d_LW_law_301 rfl (lv_at hl 2 rfl) ?_
        refine lv_aload_n hx hb d_LW_law_302 rfl (lv_at hl 0 rfl) ?_
        refine lv_iload_n hx hb d_LW_law_303 rfl (lv_at hl 3 rfl) ?_
        refine lv_iconst (v := nI 1) hx hb d_LW_law_304 (by decide +kernel) ?_
        refine lv_iadd hx hb d_LW_law_305 ?_
        refine lv_repi (nI (i + 1)) (nI_add _ _) ?_
        refine xs_ld hx hb hX hbl hbA hS (i + 1) rfl (by omega) (by omega) d_LW_law_306 ?_
        refine lv_i2l (v := (xs (i + 1)).toInt64) hx hb d_LW_law_307 rfl ?_
        refine lv_bipush (v := (32 : Int32)) hx hb d_LW_law_308 (by decide +kernel) ?_
        refine lv_lshl (v := ((xs (i + 1)).toInt64) <<< ((32 : Int32).toInt64 &&& 63)) hx hb d_LW_law_310 rfl ?_
        refine lv_aload_n hx hb d_LW_law_311 rfl (lv_at hl 0 rfl) ?_
        refine lv_iload_n hx hb d_LW_law_312 rfl (lv_at hl 3 rfl) ?_
        refine lv_iconst (v := nI 2) hx hb d_LW_law_313 (by decide +kernel) ?_
        refine lv_iadd hx hb d_LW_law_314 ?_
        refine lv_repi (nI (i + 2)) (nI_add _ _) ?_
        refine xs_ld hx hb hX hbl hbA hS (i + 2) rfl (by omega) (by omega) d_LW_law_315 ?_
        refine lv_i2l (v := (xs (i + 2)).toInt64) hx hb d_LW_law_316 rfl ?_
        refine lv_ldc2 (v := 4294967295) hx hb hown (hts _ m_209) d_LW_law_317 ?_
        refine lv_land hx hb d_LW_law_320 ?_
        refine lv_lor hx hb d_LW_law_321 ?_
        refine lv_repl (nm (xs (i + 1)) (xs (i + 2))) (rfl) ?_
        refine lv_aload_n hx hb d_LW_law_322 rfl (lv_at hl 0 rfl) ?_
        refine lv_iload_n hx hb d_LW_law_323 rfl (lv_at hl 3 rfl) ?_
        refine lv_iconst (v := nI 3) hx hb d_LW_law_324 (by decide +kernel) ?_
        refine lv_iadd hx hb d_LW_law_325 ?_
        refine lv_repi (nI (i + 3)) (nI_add _ _) ?_
        refine xs_ld hx hb hX hbl hbA hS (i + 3) rfl (by omega) (by omega) d_LW_law_326 ?_
        have hP : va_P D classes (wX ax ad cL cI u ++ wA am cL cI a ++ []) H := by rw [List.append_nil]; exact hP
        have hD : va_D A (wX ax ad cL cI u ++ wA am cL cI a ++ []) := by rw [List.append_nil]; exact hD
        refine ct_callV (w1 := (wX ax ad cL cI u)) (wc := (wA am cL cI a)) (w2 := []) (As := [.long (nm (xs (i + 1)) (xs (i + 2))), .int (xs (i + 3))]) (rest := [.int ((a_rem a (nm (xs (i + 1)) (xs (i + 2))) (xs (i + 3))).1)]) hx hb hml hown hts hk (c_MO_remove l D am cL cI a h9 (nm (xs (i + 1)) (xs (i + 2))) (xs (i + 3))) 2 m_180 m_3 m_177 m_178 m_179 (by decide +kernel) ⟨Nat.le_of_ble_eq_true rfl, Nat.le_of_ble_eq_true rfl⟩ ⟨rfl, rfl⟩ rfl rfl rfl hl.1 rfl (Nat.le_of_ble_eq_true rfl) d_LW_law_327 ⟨Nat.le_of_ble_eq_true rfl, Nat.le_of_ble_eq_true rfl⟩ hP hD hS (fun _ => rfl) (fun v u H locs hv hP hD hS => ?_)
        obtain ⟨rfl, hv⟩ := hv
        rw [hv] at hP hD
        refine W.eq (g2 := F0 m 330 ls [.int ((a_rem a (nm (xs (i + 1)) (xs (i + 2))) (xs (i + 3))).1), .int ((a_rem a (nm (xs (i + 1)) (xs (i + 2))) (xs (i + 3))).1)]) rfl ?_
        rw [List.append_nil] at hP hD
        refine lv_icmp_eq (tgt := 495) hx hb d_LW_law_330 (by decide) (fun g2 => ?_) (fun g2 => ?_)
        · exact k495 _ _ H locs hrel2 hP hD hS
        · exact absurd rfl g2
      · refine lv_tableIn (tgt := 335) (off := 302) hx hb d_LW_law_33 (by decide +kernel) (by decide +kernel) (by decide +kernel) (by decide) ?_
        refine lv_aload_n hx hb d_LW_law_335 rfl (lv_at hl 1 rfl) ?_
        refine lv_aload_n hx hb d_LW_law_336 rfl (lv_at hl 0 rfl) ?_
        refine lv_iload_n hx hb d_LW_law_337 rfl (lv_at hl 3 rfl) ?_
        refine lv_iconst (v := nI 1) hx hb d_LW_law_338 (by decide +kernel) ?_
        refine lv_iadd hx hb d_LW_law_339 ?_
        refine lv_repi (nI (i + 1)) (nI_add _ _) ?_
        refine xs_ld hx hb hX hbl hbA hS (i + 1) rfl (by omega) (by omega) d_LW_law_340 ?_
        refine ct_callV (w1 := []) (wc := (wX ax ad cL cI u)) (w2 := (wA am cL cI a)) (As := [.int (xs (i + 1))]) (rest := []) hx hb hml hown hts hk (c_NT_take l D ax ad cL cI u a hrel (xs (i + 1))) 1 m_103 m_1 m_100 m_101 m_102 (by decide +kernel) ⟨Nat.le_of_ble_eq_true rfl, Nat.le_of_ble_eq_true rfl⟩ ⟨rfl, rfl⟩ rfl rfl rfl hl.1 rfl (Nat.le_of_ble_eq_true rfl) d_LW_law_341 ⟨Nat.le_of_ble_eq_true rfl, Nat.le_of_ble_eq_true rfl⟩ hP hD hS (fun _ => rfl) (fun v u H locs hv hP hD hS => ?_)
        obtain ⟨rfl, hrel2⟩ := hv
        refine W.eq (g2 := F0 m 344 ls [.int ((a_take a (xs (i + 1))).1)]) rfl ?_
        refine lv_aload_n hx hb d_LW_law_344 rfl (lv_at hl 2 rfl) ?_
        refine lv_aload_n hx hb d_LW_law_345 rfl (lv_at hl 0 rfl) ?_
        refine lv_iload_n hx hb d_LW_law_346 rfl (lv_at hl 3 rfl) ?_
        refine lv_iconst (v := nI 1) hx hb d_LW_law_347 (by decide +kernel) ?_
        refine lv_iadd hx hb d_LW_law_348 ?_
        refine lv_repi (nI (i + 1)) (nI_add _ _) ?_
        refine xs_ld hx hb hX hbl hbA hS (i + 1) rfl (by omega) (by omega) d_LW_law_349 ?_
        have hP : va_P D classes (wX ax ad cL cI u ++ wA am cL cI a ++ []) H := by rw [List.append_nil]; exact hP
        have hD : va_D A (wX ax ad cL cI u ++ wA am cL cI a ++ []) := by rw [List.append_nil]; exact hD
        refine ct_callV (w1 := (wX ax ad cL cI u)) (wc := (wA am cL cI a)) (w2 := []) (As := [.int (xs (i + 1))]) (rest := [.int ((a_take a (xs (i + 1))).1)]) hx hb hml hown hts hk (c_MO_take l D am cL cI a h9 (xs (i + 1))) 1 m_188 m_3 m_185 m_186 m_187 (by decide +kernel) ⟨Nat.le_of_ble_eq_true rfl, Nat.le_of_ble_eq_true rfl⟩ ⟨rfl, rfl⟩ rfl rfl rfl hl.1 rfl (Nat.le_of_ble_eq_true rfl) d_LW_law_350 ⟨Nat.le_of_ble_eq_true rfl, Nat.le_of_ble_eq_true rfl⟩ hP hD hS (fun _ => rfl) (fun v u H locs hv hP hD hS => ?_)
        obtain ⟨rfl, hv⟩ := hv
        rw [hv] at hP hD
        refine W.eq (g2 := F0 m 353 ls [.int ((a_take a (xs (i + 1))).1), .int ((a_take a (xs (i + 1))).1)]) rfl ?_
        rw [List.append_nil] at hP hD
        refine lv_icmp_eq (tgt := 495) hx hb d_LW_law_353 (by decide) (fun g2 => ?_) (fun g2 => ?_)
        · exact k495 _ _ H locs hrel2 hP hD hS
        · exact absurd rfl g2
      · refine lv_tableIn (tgt := 358) (off := 325) hx hb d_LW_law_33 (by decide +kernel) (by decide +kernel) (by decide +kernel) (by decide) ?_
        refine lv_aload_n hx hb d_LW_law_358 rfl (lv_at hl 1 rfl) ?_
        refine lv_aload_n hx hb d_LW_law_359 rfl (lv_at hl 0 rfl) ?_
        refine lv_iload_n hx hb d_LW_law_360 rfl (lv_at hl 3 rfl) ?_
        refine lv_iconst (v := nI 1) hx hb d_LW_law_361 (by decide +kernel) ?_
        refine lv_iadd hx hb d_LW_law_362 ?_
        refine lv_repi (nI (i + 1)) (nI_add _ _) ?_
        refine xs_ld hx hb hX hbl hbA hS (i + 1) rfl (by omega) (by omega) d_LW_law_363 ?_
        refine lv_i2l (v := (xs (i + 1)).toInt64) hx hb d_LW_law_364 rfl ?_
        refine lv_bipush (v := (32 : Int32)) hx hb d_LW_law_365 (by decide +kernel) ?_
        refine lv_lshl (v := ((xs (i + 1)).toInt64) <<< ((32 : Int32).toInt64 &&& 63)) hx hb d_LW_law_367 rfl ?_
        refine lv_aload_n hx hb d_LW_law_368 rfl (lv_at hl 0 rfl) ?_
        refine lv_iload_n hx hb d_LW_law_369 rfl (lv_at hl 3 rfl) ?_
        refine lv_iconst (v := nI 2) hx hb d_LW_law_370 (by decide +kernel) ?_
        refine lv_iadd hx hb d_LW_law_371 ?_
        refine lv_repi (nI (i + 2)) (nI_add _ _) ?_
        refine xs_ld hx hb hX hbl hbA hS (i + 2) rfl (by omega) (by omega) d_LW_law_372 ?_
        refine lv_i2l (v := (xs (i + 2)).toInt64) hx hb d_LW_law_373 rfl ?_
        refine lv_ldc2 (v := 4294967295) hx hb hown (hts _ m_209) d_LW_law_374 ?_
        refine lv_land hx hb d_LW_law_377 ?_
        refine lv_lor hx hb d_LW_law_378 ?_
        refine lv_repl (nm (xs (i + 1)) (xs (i + 2))) (rfl) ?_
        refine lv_aload_n hx hb d_LW_law_379 rfl (lv_at hl 0 rfl) ?_
        refine lv_iload_n hx hb d_LW_law_380 rfl (lv_at hl 3 rfl) ?_
        refine lv_iconst (v := nI 3) hx hb d_LW_law_381 (by decide +kernel) ?_
        refine lv_iadd hx hb d_LW_law_382 ?_
        refine lv_repi (nI (i + 3)) (nI_add _ _) ?_
        refine xs_ld hx hb hX hbl hbA hS (i + 3) rfl (by omega) (by omega) d_LW_law_383 ?_
        refine ct_callV (w1 := []) (wc := (wX ax ad cL cI u)) (w2 := (wA am cL cI a)) (As := [.long (nm (xs (i + 1)) (xs (i + 2))), .int (xs (i + 3))]) (rest := []) hx hb hml hown hts hk (c_NT_get l D ax ad cL cI u a hrel (nm (xs (i + 1)) (xs (i + 2))) (xs (i + 3))) 2 m_124 m_1 m_121 m_122 m_123 (by decide +kernel) ⟨Nat.le_of_ble_eq_true rfl, Nat.le_of_ble_eq_true rfl⟩ ⟨rfl, rfl⟩ rfl rfl rfl hl.1 rfl (Nat.le_of_ble_eq_true rfl) d_LW_law_384 ⟨Nat.le_of_ble_eq_true rfl, Nat.le_of_ble_eq_true rfl⟩ hP hD hS (fun _ => rfl) (fun v u H locs hv hP hD hS => ?_)
        obtain ⟨rfl, hrel2⟩ := hv
        refine W.eq (g2 := F0 m 387 ls [.int (a_get a (nm (xs (i + 1)) (xs (i + 2))) (xs (i + 3)))]) rfl ?_
        refine lv_aload_n hx hb d_LW_law_387 rfl (lv_at hl 2 rfl) ?_
        refine lv_aload_n hx hb d_LW_law_388 rfl (lv_at hl 0 rfl) ?_
        refine lv_iload_n hx hb d_LW_law_389 rfl (lv_at hl 3 rfl) ?_
        refine lv_iconst (v := nI 1) hx hb d_LW_law_390 (by decide +kernel) ?_
        refine lv_iadd hx hb d_LW_law_391 ?_
        refine lv_repi (nI (i + 1)) (nI_add _ _) ?_
        refine xs_ld hx hb hX hbl hbA hS (i + 1) rfl (by omega) (by omega) d_LW_law_392 ?_
        refine lv_i2l (v := (xs (i + 1)).toInt64) hx hb d_LW_law_393 rfl ?_
        refine lv_bipush (v := (32 : Int32)) hx hb d_LW_law_394 (by decide +kernel) ?_
        refine lv_lshl (v := ((xs (i + 1)).toInt64) <<< ((32 : Int32).toInt64 &&& 63)) hx hb d_LW_law_396 rfl ?_
        refine lv_aload_n hx hb d_LW_law_397 rfl (lv_at hl 0 rfl) ?_
        refine lv_iload_n hx hb d_LW_law_398 rfl (lv_at hl 3 rfl) ?_
        refine lv_iconst (v := nI 2) hx hb d_LW_law_399 (by decide +kernel) ?_
        refine lv_iadd hx hb d_LW_law_400 ?_
        refine lv_repi (nI (i + 2)) (nI_add _ _) ?_
        refine xs_ld hx hb hX hbl hbA hS (i + 2) rfl (by omega) (by omega) d_LW_law_401 ?_
        refine lv_i2l (v := (xs (i + 2)).toInt64) hx hb d_LW_law_402 rfl ?_
        refine lv_ldc2 (v := 4294967295) hx hb hown (hts _ m_209) d_LW_law_403 ?_
        refine lv_land hx hb d_LW_law_406 ?_
        refine lv_lor hx hb d_LW_law_407 ?_
        refine lv_repl (nm (xs (i + 1)) (xs (i + 2))) (rfl) ?_
        refine lv_aload_n hx hb d_LW_law_408 rfl (lv_at hl 0 rfl) ?_
        refine lv_iload_n hx hb d_LW_law_409 rfl (lv_at hl 3 rfl) ?_
        refine lv_iconst (v := nI 3) hx hb d_LW_law_410 (by decide +kernel) ?_
        refine lv_iadd hx hb d_LW_law_411 ?_
        refine lv_repi (nI (i + 3)) (nI_add _ _) ?_
        refine xs_ld hx hb hX hbl hbA hS (i + 3) rfl (by omega) (by omega) d_LW_law_412 ?_
        have hP : va_P D classes (wX ax ad cL cI u ++ wA am cL cI a ++ []) H := by rw [List.append_nil]; exact hP
        have hD : va_D A (wX ax ad cL cI u ++ wA am cL cI a ++ []) := by rw [List.append_nil]; exact hD
        refine ct_callV (w1 := (wX ax ad cL cI u)) (wc := (wA am cL cI a)) (w2 := []) (As := [.long (nm (xs (i + 1)) (xs (i + 2))), .int (xs (i + 3))]) (rest := [.int (a_get a (nm (xs (i + 1)) (xs (i + 2))) (xs (i + 3)))]) hx hb hml hown hts hk (c_MO_get l D am cL cI a h9 (nm (xs (i + 1)) (xs (i + 2))) (xs (i + 3))) 2 m_192 m_3 m_189 m_190 m_191 (by decide +kernel) ⟨Nat.le_of_ble_eq_true rfl, Nat.le_of_ble_eq_true rfl⟩ ⟨rfl, rfl⟩ rfl rfl rfl hl.1 rfl (Nat.le_of_ble_eq_true rfl) d_LW_law_413 ⟨Nat.le_of_ble_eq_true rfl, Nat.le_of_ble_eq_true rfl⟩ hP hD hS (fun _ => rfl) (fun v u H locs hv hP hD hS => ?_)
        obtain ⟨rfl, hv⟩ := hv
        rw [hv] at hP hD
        refine W.eq (g2 := F0 m 416 ls [.int (a_get a (nm (xs (i + 1)) (xs (i + 2))) (xs (i + 3))), .int (a_get a (nm (xs (i + 1)) (xs (i + 2))) (xs (i + 3)))]) rfl ?_
        rw [List.append_nil] at hP hD
        refine lv_icmp_eq (tgt := 495) hx hb d_LW_law_416 (by decide) (fun g2 => ?_) (fun g2 => ?_)
        · exact k495 _ _ H locs hrel2 hP hD hS
        · exact absurd rfl g2
      · refine lv_tableIn (tgt := 421) (off := 388) hx hb d_LW_law_33 (by decide +kernel) (by decide +kernel) (by decide +kernel) (by decide) ?_
        refine lv_aload_n hx hb d_LW_law_421 rfl (lv_at hl 1 rfl) ?_
        refine lv_aload_n hx hb d_LW_law_422 rfl (lv_at hl 0 rfl) ?_
        refine lv_iload_n hx hb d_LW_law_423 rfl (lv_at hl 3 rfl) ?_
        refine lv_iconst (v := nI 1) hx hb d_LW_law_424 (by decide +kernel) ?_
        refine lv_iadd hx hb d_LW_law_425 ?_
        refine lv_repi (nI (i + 1)) (nI_add _ _) ?_
        refine xs_ld hx hb hX hbl hbA hS (i + 1) rfl (by omega) (by omega) d_LW_law_426 ?_
        refine ct_callV (w1 := []) (wc := (wX ax ad cL cI u)) (w2 := (wA am cL cI a)) (As := [.int (xs (i + 1))]) (rest := []) hx hb hml hown hts hk (c_NT_name l D ax ad cL cI u a hrel (xs (i + 1))) 1 m_128 m_1 m_125 m_126 m_127 (by decide +kernel) ⟨Nat.le_of_ble_eq_true rfl, Nat.le_of_ble_eq_true rfl⟩ ⟨rfl, rfl⟩ rfl rfl rfl hl.1 rfl (Nat.le_of_ble_eq_true rfl) d_LW_law_427 ⟨Nat.le_of_ble_eq_true rfl, Nat.le_of_ble_eq_true rfl⟩ hP hD hS (fun _ => rfl) (fun v u H locs hv hP hD hS => ?_)
        obtain ⟨rfl, hrel2⟩ := hv
        refine W.eq (g2 := F0 m 430 ls [.long (a_name a (xs (i + 1)))]) rfl ?_
        refine lv_aload_n hx hb d_LW_law_430 rfl (lv_at hl 2 rfl) ?_
        refine lv_aload_n hx hb d_LW_law_431 rfl (lv_at hl 0 rfl) ?_
        refine lv_iload_n hx hb d_LW_law_432 rfl (lv_at hl 3 rfl) ?_
        refine lv_iconst (v := nI 1) hx hb d_LW_law_433 (by decide +kernel) ?_
        refine lv_iadd hx hb d_LW_law_434 ?_
        refine lv_repi (nI (i + 1)) (nI_add _ _) ?_
        refine xs_ld hx hb hX hbl hbA hS (i + 1) rfl (by omega) (by omega) d_LW_law_435 ?_
        have hP : va_P D classes (wX ax ad cL cI u ++ wA am cL cI a ++ []) H := by rw [List.append_nil]; exact hP
        have hD : va_D A (wX ax ad cL cI u ++ wA am cL cI a ++ []) := by rw [List.append_nil]; exact hD
        refine ct_callV (w1 := (wX ax ad cL cI u)) (wc := (wA am cL cI a)) (w2 := []) (As := [.int (xs (i + 1))]) (rest := [.long (a_name a (xs (i + 1)))]) hx hb hml hown hts hk (c_MO_name l D am cL cI a h9 (xs (i + 1))) 1 m_196 m_3 m_193 m_194 m_195 (by decide +kernel) ⟨Nat.le_of_ble_eq_true rfl, Nat.le_of_ble_eq_true rfl⟩ ⟨rfl, rfl⟩ rfl rfl rfl hl.1 rfl (Nat.le_of_ble_eq_true rfl) d_LW_law_436 ⟨Nat.le_of_ble_eq_true rfl, Nat.le_of_ble_eq_true rfl⟩ hP hD hS (fun _ => rfl) (fun v u H locs hv hP hD hS => ?_)
        obtain ⟨rfl, hv⟩ := hv
        rw [hv] at hP hD
        refine W.eq (g2 := F0 m 439 ls [.long (a_name a (xs (i + 1))), .long (a_name a (xs (i + 1)))]) rfl ?_
        rw [List.append_nil] at hP hD
        refine W.lcmp hx hb d_LW_law_439 ?_
        refine lv_if_eq (tgt := 495) hx hb d_LW_law_440 (by decide) (fun g2 => ?_) (fun g2 => ?_)
        · exact k495 _ _ H locs hrel2 hP hD hS
        · exact absurd ((lg_cmp_eq _ _).mpr rfl) g2
      · refine lv_tableIn (tgt := 445) (off := 412) hx hb d_LW_law_33 (by decide +kernel) (by decide +kernel) (by decide +kernel) (by decide) ?_
        refine lv_aload_n hx hb d_LW_law_445 rfl (lv_at hl 1 rfl) ?_
        refine lv_aload_n hx hb d_LW_law_446 rfl (lv_at hl 0 rfl) ?_
        refine lv_iload_n hx hb d_LW_law_447 rfl (lv_at hl 3 rfl) ?_
        refine lv_iconst (v := nI 1) hx hb d_LW_law_448 (by decide +kernel) ?_
        refine lv_iadd hx hb d_LW_law_449 ?_
        refine lv_repi (nI (i + 1)) (nI_add _ _) ?_
        refine xs_ld hx hb hX hbl hbA hS (i + 1) rfl (by omega) (by omega) d_LW_law_450 ?_
        refine ct_callV (w1 := []) (wc := (wX ax ad cL cI u)) (w2 := (wA am cL cI a)) (As := [.int (xs (i + 1))]) (rest := []) hx hb hml hown hts hk (c_NT_index l D ax ad cL cI u a hrel (xs (i + 1))) 1 m_132 m_1 m_129 m_130 m_131 (by decide +kernel) ⟨Nat.le_of_ble_eq_true rfl, Nat.le_of_ble_eq_true rfl⟩ ⟨rfl, rfl⟩ rfl rfl rfl hl.1 rfl (Nat.le_of_ble_eq_true rfl) d_LW_law_451 ⟨Nat.le_of_ble_eq_true rfl, Nat.le_of_ble_eq_true rfl⟩ hP hD hS (fun _ => rfl) (fun v u H locs hv hP hD hS => ?_)
        obtain ⟨rfl, hrel2⟩ := hv
        refine W.eq (g2 := F0 m 454 ls [.int (a_index a (xs (i + 1)))]) rfl ?_
        refine lv_aload_n hx hb d_LW_law_454 rfl (lv_at hl 2 rfl) ?_
        refine lv_aload_n hx hb d_LW_law_455 rfl (lv_at hl 0 rfl) ?_
        refine lv_iload_n hx hb d_LW_law_456 rfl (lv_at hl 3 rfl) ?_
        refine lv_iconst (v := nI 1) hx hb d_LW_law_457 (by decide +kernel) ?_
        refine lv_iadd hx hb d_LW_law_458 ?_
        refine lv_repi (nI (i + 1)) (nI_add _ _) ?_
        refine xs_ld hx hb hX hbl hbA hS (i + 1) rfl (by omega) (by omega) d_LW_law_459 ?_
        have hP : va_P D classes (wX ax ad cL cI u ++ wA am cL cI a ++ []) H := by rw [List.append_nil]; exact hP
        have hD : va_D A (wX ax ad cL cI u ++ wA am cL cI a ++ []) := by rw [List.append_nil]; exact hD
        refine ct_callV (w1 := (wX ax ad cL cI u)) (wc := (wA am cL cI a)) (w2 := []) (As := [.int (xs (i + 1))]) (rest := [.int (a_index a (xs (i + 1)))]) hx hb hml hown hts hk (c_MO_index l D am cL cI a h9 (xs (i + 1))) 1 m_200 m_3 m_197 m_198 m_199 (by decide +kernel) ⟨Nat.le_of_ble_eq_true rfl, Nat.le_of_ble_eq_true rfl⟩ ⟨rfl, rfl⟩ rfl rfl rfl hl.1 rfl (Nat.le_of_ble_eq_true rfl) d_LW_law_460 ⟨Nat.le_of_ble_eq_true rfl, Nat.le_of_ble_eq_true rfl⟩ hP hD hS (fun _ => rfl) (fun v u H locs hv hP hD hS => ?_)
        obtain ⟨rfl, hv⟩ := hv
        rw [hv] at hP hD
        refine W.eq (g2 := F0 m 463 ls [.int (a_index a (xs (i + 1))), .int (a_index a (xs (i + 1)))]) rfl ?_
        rw [List.append_nil] at hP hD
        refine lv_icmp_eq (tgt := 495) hx hb d_LW_law_463 (by decide) (fun g2 => ?_) (fun g2 => ?_)
        · exact k495 _ _ H locs hrel2 hP hD hS
        · exact absurd rfl g2
      · refine lv_tableIn (tgt := 468) (off := 435) hx hb d_LW_law_33 (by decide +kernel) (by decide +kernel) (by decide +kernel) (by decide) ?_
        refine lv_aload_n hx hb d_LW_law_468 rfl (lv_at hl 1 rfl) ?_
        refine ct_callV (w1 := []) (wc := (wX ax ad cL cI u)) (w2 := (wA am cL cI a)) (As := []) (rest := []) hx hb hml hown hts hk (c_NT_many l D ax ad cL cI u a hrel ) 0 m_136 m_1 m_133 m_134 m_135 (by decide +kernel) ⟨Nat.le_of_ble_eq_true rfl, Nat.le_of_ble_eq_true rfl⟩ ⟨rfl, rfl⟩ rfl rfl rfl hl.1 rfl (Nat.le_of_ble_eq_true rfl) d_LW_law_469 ⟨Nat.le_of_ble_eq_true rfl, Nat.le_of_ble_eq_true rfl⟩ hP hD hS (fun _ => rfl) (fun v u H locs hv hP hD hS => ?_)
        obtain ⟨rfl, hrel2⟩ := hv
        refine W.eq (g2 := F0 m 472 ls [.int (nI a.1)]) rfl ?_
        refine lv_aload_n hx hb d_LW_law_472 rfl (lv_at hl 2 rfl) ?_
        have hP : va_P D classes (wX ax ad cL cI u ++ wA am cL cI a ++ []) H := by rw [List.append_nil]; exact hP
        have hD : va_D A (wX ax ad cL cI u ++ wA am cL cI a ++ []) := by rw [List.append_nil]; exact hD
        refine ct_callV (w1 := (wX ax ad cL cI u)) (wc := (wA am cL cI a)) (w2 := []) (As := []) (rest := [.int (nI a.1)]) hx hb hml hown hts hk (c_MO_many l D am cL cI a h9 ) 0 m_204 m_3 m_201 m_202 m_203 (by decide +kernel) ⟨Nat.le_of_ble_eq_true rfl, Nat.le_of_ble_eq_true rfl⟩ ⟨rfl, rfl⟩ rfl rfl rfl hl.1 rfl (Nat.le_of_ble_eq_true rfl) d_LW_law_473 ⟨Nat.le_of_ble_eq_true rfl, Nat.le_of_ble_eq_true rfl⟩ hP hD hS (fun _ => rfl) (fun v u H locs hv hP hD hS => ?_)
        obtain ⟨rfl, hv⟩ := hv
        rw [hv] at hP hD
        refine W.eq (g2 := F0 m 476 ls [.int (nI a.1), .int (nI a.1)]) rfl ?_
        rw [List.append_nil] at hP hD
        refine lv_icmp_eq (tgt := 495) hx hb d_LW_law_476 (by decide) (fun g2 => ?_) (fun g2 => ?_)
        · exact k495 _ _ H locs hrel2 hP hD hS
        · exact absurd rfl g2
      · refine lv_tableIn (tgt := 481) (off := 448) hx hb d_LW_law_33 (by decide +kernel) (by decide +kernel) (by decide +kernel) (by decide) ?_
        refine lv_aload_n hx hb d_LW_law_481 rfl (lv_at hl 1 rfl) ?_
        refine ct_callV (w1 := []) (wc := (wX ax ad cL cI u)) (w2 := (wA am cL cI a)) (As := []) (rest := []) hx hb hml hown hts hk (c_NT_value l D ax ad cL cI u a hrel ) 0 m_140 m_1 m_137 m_138 m_139 (by decide +kernel) ⟨Nat.le_of_ble_eq_true rfl, Nat.le_of_ble_eq_true rfl⟩ ⟨rfl, rfl⟩ rfl rfl rfl hl.1 rfl (Nat.le_of_ble_eq_true rfl) d_LW_law_482 ⟨Nat.le_of_ble_eq_true rfl, Nat.le_of_ble_eq_true rfl⟩ hP hD hS (fun _ => rfl) (fun v u H locs hv hP hD hS => ?_)
        obtain ⟨rfl, hrel2⟩ := hv
        refine W.eq (g2 := F0 m 485 ls [.long (a_sum a.2.2.2 a.1)]) rfl ?_
        refine lv_aload_n hx hb d_LW_law_485 rfl (lv_at hl 2 rfl) ?_
        have hP : va_P D classes (wX ax ad cL cI u ++ wA am cL cI a ++ []) H := by rw [List.append_nil]; exact hP
        have hD : va_D A (wX ax ad cL cI u ++ wA am cL cI a ++ []) := by rw [List.append_nil]; exact hD
        refine ct_callV (w1 := (wX ax ad cL cI u)) (wc := (wA am cL cI a)) (w2 := []) (As := []) (rest := [.long (a_sum a.2.2.2 a.1)]) hx hb hml hown hts hk (c_MO_value l D am cL cI a h9 ) 0 m_208 m_3 m_205 m_206 m_207 (by decide +kernel) ⟨Nat.le_of_ble_eq_true rfl, Nat.le_of_ble_eq_true rfl⟩ ⟨rfl, rfl⟩ rfl rfl rfl hl.1 rfl (Nat.le_of_ble_eq_true rfl) d_LW_law_486 ⟨Nat.le_of_ble_eq_true rfl, Nat.le_of_ble_eq_true rfl⟩ hP hD hS (fun _ => rfl) (fun v u H locs hv hP hD hS => ?_)
        obtain ⟨rfl, hv⟩ := hv
        rw [hv] at hP hD
        refine W.eq (g2 := F0 m 489 ls [.long (a_sum a.2.2.2 a.1), .long (a_sum a.2.2.2 a.1)]) rfl ?_
        rw [List.append_nil] at hP hD
        refine W.lcmp hx hb d_LW_law_489 ?_
        refine lv_if_eq (tgt := 495) hx hb d_LW_law_490 (by decide) (fun g2 => ?_) (fun g2 => ?_)
        · exact k495 _ _ H locs hrel2 hP hD hS
        · exact absurd ((lg_cmp_eq _ _).mpr rfl) g2
      · refine lv_tableOut (tgt := 495) hx hb d_LW_law_33 (Or.inr (by rw [nI_toInt (by omega)]; omega)) (by decide) ?_
        exact k495 u a H locs hrel hP hD hS
end
section
/-! the law from its entry to the head of its loop (the statement of whole_start is a starting text) -/
set_option maxHeartbeats 16000000 in
set_option maxRecDepth 100000 in
theorem whole_start {p : Program} {e : Env} {s : State} {m : MethodId} {below : List Frame} {meth : Method} {c : Code} (l : Launch) {b L : Nat} {xs : Nat → Int32} (hL : L ≤ 3584) (C0 : lw_At p s m meth c b L xs) : W p l e room_1 s m #[Value.ref b] below meth c s.heap [] 0 0 (lw_Z below #[Value.ref b] s) (entryFrame m ([Value.ref b] : List Value).toArray 4) := by
  obtain ⟨hx, hb, hr, hml, hown, hts0, hX, hbl, hlocks, hgv⟩ := C0
  have hown : s.vm.findClass "NameTableLaw" = some m.cls := hown
  have hts : ∀ w ∈ tg, w.before #[Value.ref b] s = true := fun w hw => hts0 w (tg_in hw)
  obtain ⟨k0, i0, hk0⟩ := u_known (C := R_NT) (T := F_NT) (N := 1) hts in_NT (hts _ m_5)
  obtain ⟨k1, i1, hk1⟩ := u_known (C := R_CO) (T := F_CO) (N := 10) hts in_CO (hts _ m_13)
  obtain ⟨k2, i2, hk2⟩ := u_known (C := R_MO) (T := F_MO) (N := 4) hts in_MO (hts _ m_142)
  have hK : ∃ D : va_G, va_K D classes [] s := by
    refine ⟨(fun c => match c with | 0 => k0 | 1 => k1 | _ => k2, fun c => match c with | 0 => i0 | 1 => i1 | _ => i2), ?_, fun k q hk => by simp at hk⟩
    intro c q hq
    rcases (show c = 0 ∨ c = 1 ∨ c = 2 ∨ 3 ≤ c by omega) with rfl | rfl | rfl | h3
    · cases hq; exact hk0
    · cases hq; exact hk1
    · cases hq; exact hk2
    · rw [List.getElem?_eq_none (by simpa using h3)] at hq; cases hq
  obtain ⟨D, hK⟩ := hK
  obtain ⟨A, hAe⟩ : ∃ A : Nat → Prop, A = fun q => s.heap.size ≤ q := ⟨_, rfl⟩
  have hA : ∀ q : Nat, s.heap.size ≤ q → A q := fun q h => by rw [hAe]; exact h
  have hAs : ∀ q : Nat, A q → s.heap.size ≤ q := fun q h => by rw [hAe] at h; exact h
  have hbA : ¬ A b := fun h => absurd (hAs b h) (Nat.not_le_of_lt hbl)
  have hP : va_P D classes [] s.heap := fun k q hk => by simp at hk
  have hD : va_D A [] := ⟨fun i j x y hi => by simp at hi, fun k q hk => by simp at hk⟩
  have hS : va_S A s.heap s.heap [] := va_S.rf
  have hl := lv_entry ([.ref b]) (n := 4) (Nat.le_of_ble_eq_true rfl)
  rw [lg_entry_eq]
  generalize (lg_sl ([.ref b]) ++ List.replicate (4 - (lg_sl ([.ref b])).length) Slot.unset).toArray = ls at hl ⊢
  have hl : lv_has ls 4 [(0, .ref b)] := hl
  refine va_new (ci := 0) (fs := [.null]) (C := R_NT) (T := F_NT) (N := 1) hx hb hts in_NT t_NT t_NT_ok hown (hts _ m_4) (hts _ m_5) (hts _ m_1) hK hP hD hS hA rfl (fun j hj => by rcases (show j = 0 by omega) with rfl; rfl) (Nat.le_of_ble_eq_true rfl) (Nat.le_of_ble_eq_true rfl) d_LW_law_0 (fun q1 H hP hD hS => ?_)
  have hP : va_P D classes [(q1, .inr (0, [.null]))] H := hP
  have hD : va_D A [(q1, .inr (0, [.null]))] := hD
  refine W.widen (k := 1) (n := 1) (by omega) (by omega) ?_
  refine lv_dup hx hb d_LW_law_3 rfl ?_
  have hPc := hP.sub (ws' := [(q1, .inr (0, [.null]))]) [0] rfl
  have hDc := hD.sub (ws' := [(q1, .inr (0, [.null]))]) [0] (by decide) rfl
  have hKc := hK.sub (tys' := []) [] rfl
  have hFc := va_free (wc := [(q1, .inr (0, [.null]))]) hD hS hA [0] rfl
  refine va_callv (va_runI (As := []) (rest := [.ref q1]) (Ts := tg) ⟨hx, hb, hml, hown, hts⟩ (c_NT_init l D q1 H.size) (cwI 0 hts (gd m_8) rfl rfl rfl (hts _ m_1) (hts _ m_6) (hts _ m_7) rfl (by decide +kernel) ⟨Nat.le_of_ble_eq_true rfl, Nat.le_of_ble_eq_true rfl⟩) ⟨fun a U g mk q => by obtain ⟨q0, q1, qP, qK, qD⟩ := q; exact ⟨q0, q1, qP, va_K.moved (u := U) (U := U.calling g mk a) (Vm.Alike.refl U.vm) qK, qD⟩, fun U hU hW => ⟨rfl, by rw [hU], by rw [hU]; exact hPc, va_K.moved hW.alike hKc, hDc.weaken (fun _ _ _ _ => trivial)⟩⟩ rfl rfl hl.1 rfl (lv_room (Nat.le_of_ble_eq_true rfl)) d_LW_law_4 ⟨Nat.le_of_ble_eq_true rfl, Nat.le_of_ble_eq_true rfl⟩) hS (fun q _ h => hFc q h) hFc (fun u t H1 locs ht hvm h5 hB hz1 hk1 hS => ?_)
  obtain ⟨ad, cL, cI, hP1, hK1, hD1⟩ := hB
  rw [ht] at hP1
  have hK1 := va_K.moved hvm.symm hK1
  obtain ⟨hP, hD⟩ := va_join (wr := []) (w1 := (wX q1 ad cL cI ((fun _ => 0), (fun _ => 0), (fun _ => 0), (fun k => 899 - k), 900, (fun _ => 0), 0, 0, (fun _ => 0), 0))) hP hD [0] [] rfl rfl (by decide) (by decide) hk1 hFc hP1 hD1
  generalize H1 = H at hP hS ⊢
  have hP : va_P D classes (wX q1 ad cL cI ((fun _ => 0), (fun _ => 0), (fun _ => 0), (fun k => 899 - k), 900, (fun _ => 0), 0, 0, (fun _ => 0), 0)) H := hP
  have hD : va_D A (wX q1 ad cL cI ((fun _ => 0), (fun _ => 0), (fun _ => 0), (fun k => 899 - k), 900, (fun _ => 0), 0, 0, (fun _ => 0), 0)) := hD
  refine W.widen (k := 8) (n := 5535) (by omega) (by omega) ?_
  refine lv_astore_n (lv' := [(1, .ref q1), (0, .ref b)]) hx hb d_LW_law_7 rfl hl (by decide) rfl (fun ls hl => ?_)
  refine va_new (ci := 2) (fs := [.null, .null, .null, .int 0]) (C := R_MO) (T := F_MO) (N := 4) hx hb hts in_MO t_MO t_MO_ok hown (hts _ m_141) (hts _ m_142) (hts _ m_3) hK1 hP hD hS hA rfl (fun j hj => by rcases (show j = 0 ∨ j = 1 ∨ j = 2 ∨ j = 3 by omega) with rfl | rfl | rfl | rfl <;> rfl) (Nat.le_of_ble_eq_true rfl) (Nat.le_of_ble_eq_true rfl) d_LW_law_8 (fun q2 H hP hD hS => ?_)
  have hP : va_P D classes ((wX q1 ad cL cI ((fun _ => 0), (fun _ => 0), (fun _ => 0), (fun k => 899 - k), 900, (fun _ => 0), 0, 0, (fun _ => 0), 0)) ++ [(q2, .inr (2, [.null, .null, .null, .int 0]))]) H := hP
  have hD : va_D A ((wX q1 ad cL cI ((fun _ => 0), (fun _ => 0), (fun _ => 0), (fun k => 899 - k), 900, (fun _ => 0), 0, 0, (fun _ => 0), 0)) ++ [(q2, .inr (2, [.null, .null, .null, .int 0]))]) := hD
  refine W.widen (k := 9) (n := 5539) (by omega) (by omega) ?_
  refine lv_dup hx hb d_LW_law_11 rfl ?_
  have hPc := hP.sub (ws' := [(q2, .inr (2, [.null, .null, .null, .int 0]))]) [8] rfl
  have hDc := hD.sub (ws' := [(q2, .inr (2, [.null, .null, .null, .int 0]))]) [8] (by decide) rfl
  have hFc := va_free (wc := [(q2, .inr (2, [.null, .null, .null, .int 0]))]) hD hS hA [8] rfl
  refine va_callv (va_runI (As := []) (rest := [.ref q2]) (Ts := tg) ⟨hx, hb, hml, hown, hts⟩ (c_MO_init l D q2 H.size) (cwI 0 hts (gd m_145) rfl rfl rfl (hts _ m_3) (hts _ m_143) (hts _ m_144) rfl (by decide +kernel) ⟨Nat.le_of_ble_eq_true rfl, Nat.le_of_ble_eq_true rfl⟩) ⟨fun a U g mk q => by obtain ⟨q0, q1, qP, qK, qD⟩ := q; exact ⟨q0, q1, qP, va_K.moved (u := U) (U := U.calling g mk a) (Vm.Alike.refl U.vm) qK, qD⟩, fun U hU hW => ⟨rfl, by rw [hU], by rw [hU]; exact hPc, va_K.moved hW.alike hKc, hDc.weaken (fun _ _ _ _ => trivial)⟩⟩ rfl rfl hl.1 rfl (lv_room (Nat.le_of_ble_eq_true rfl)) d_LW_law_12 ⟨Nat.le_of_ble_eq_true rfl, Nat.le_of_ble_eq_true rfl⟩) hS (fun q _ h => hFc q h) hFc (fun u t H1 locs ht hvm h5 hB hz1 hk1 hS => ?_)
  obtain ⟨am, cL2, cI2, ham, hP1, hK2, hD1⟩ := hB
  rw [ht] at hP1
  have hK2 := va_K.moved hvm.symm hK2
  obtain ⟨hP, hD⟩ := va_join (wr := (wX q1 ad cL cI ((fun _ => 0), (fun _ => 0), (fun _ => 0), (fun k => 899 - k), 900, (fun _ => 0), 0, 0, (fun _ => 0), 0))) (w1 := wM am cL2 cI2 0 (fun _ => 0) (fun _ => 0) (fun _ => 0)) hP hD [8] [0, 1, 2, 3, 4, 5, 6, 7] rfl rfl (by decide) (by decide) hk1 hFc hP1 hD1
  generalize H1 = H at hP hS ⊢
  have hKK := hK1.app hK2
  have e1 : cL2 = cL := cl_eq hKK (i := 0) (j := 2) rfl rfl
  have e2 : cI2 = cI := ci_eq hKK (i := 1) (j := 3) rfl rfl
  rw [e1, e2] at hP hD
  refine W.widen (k := 12) (n := 8239) (by omega) (by omega) ?_
  have hwk : wk D cL cI s := ⟨hK1, va_Nw.of rfl (hts0 _ nw_19_in), va_Nw.of rfl (hts0 _ nw_21_in), va_Nw.of rfl (hts0 _ nw_23_in), va_Nw.of rfl (hts0 _ nw_108_in)⟩
  refine lv_astore_n (lv' := [(2, .ref q2), (1, .ref q1), (0, .ref b)]) hx hb d_LW_law_15 rfl hl (by decide) rfl (fun ls hl => ?_)
  refine lv_iconst (v := nI 0) hx hb d_LW_law_16 (by decide +kernel) ?_
  refine lv_istore_n (lv' := [(3, .int (nI 0)), (2, .ref q2), (1, .ref q1), (0, .ref b)]) hx hb d_LW_law_17 rfl hl (by decide) rfl (fun ls hl => ?_)
  rw [← ham] at hl
  have hl := lv_sub hl (l' := [(0, .ref b), (1, .ref q1), (2, .ref (am 0)), (3, .int (nI 0))]) [3, 2, 1, 0] rfl
  exact law_loop l hL hx hb hr hml hown hts hX hbl hlocks hbA hAs D cL cI hwk q1 ad am _ 0 ((fun _ => 0), (fun _ => 0), (fun _ => 0), (fun k => 899 - k), 900, (fun _ => 0), 0, 0, (fun _ => 0), 0) (0, (fun _ => 0), (fun _ => 0), (fun _ => 0)) ls _ _ rfl (Nat.zero_le _) rel_0 hl hP hD hS
end
section
/-! the claim: the end of the skeleton (a starting text) -/
set_option maxHeartbeats 4000000 in
theorem lw_walk (l : Launch) (b : Addr) (xs : List Int32) : MetFree l x (headSpec (Jvm.Cond.code x code maxLocals ret :: tables_1) room_1) (lw_P b xs) (fun _ _ _ _ _ => True) lw_Q := by
  refine MetFree.of_bodyS (code := code) (maxLocals := maxLocals) (ret := ret) (by decide) ?_ ?_
  · intro args s m h hn
    obtain ⟨meth, c, h1, h2, h3, h4, h5, h6, -, -⟩ := Cond.code_spec hn (atoms_spec (ws := Jvm.Cond.code x code maxLocals ret :: tables_1) h _ List.mem_cons_self)
    exact ⟨meth, c, h1, h2, h3, h4, h5, h6⟩
  · intro p e s m args below meth c s₁ B hml0 hP _
    obtain ⟨rfl, hx, hbd, hgv⟩ := hP
    obtain ⟨scr, harrAt, hlist, hof, hsmall⟩ := hx
    obtain ⟨hcb, hkn, -, -⟩ := State.arrayAt?_spec harrAt
    have hown : s.vm.findClass R_law = some m.cls := findClass_of_methodNamed B.named
    have hts0 : ∀ c ∈ (Jvm.Cond.code x code maxLocals ret :: tables_1), c.before #[Value.ref b] s = true := atoms_spec (ws := Jvm.Cond.code x code maxLocals ret :: tables_1) B.pre
    have hts : ∀ w ∈ lw_tbl, w.before #[Value.ref b] s = true := k2_hts_sels lw_privs (fun w hw => hts0 w (List.mem_cons_of_mem _ hw)) lw_privs_ok
    have hml : c.maxLocals = 4 := B.maxLocals_eq (hts0 _ List.mem_cons_self)
    have X₀ : Stand p l e room_1 s m #[Value.ref b] below meth c s₁ [] 0 0 := Stand.of_body B
    have hh0 : s₁.heap = s.heap := by rw [B.state]; rfl
    have hsz : scr.slots.size = xs.length := by rw [← Array.length_toList, hlist, List.length_map]
    have hval : ∀ j : Nat, j < xs.length → scr.slots[j]? = some (.int (xs.getD j 0)) := fun j hj => by
      rw [← Array.getElem?_toList, hlist]
      simp [hj]
    have hbl : b < s.heap.size := (Array.getElem?_eq_some_iff.mp hcb).1
    have hX : va_X b xs.length (fun j => xs.getD j 0) s s.heap := ⟨scr, hcb, hof, hkn, hsz, hval⟩
    have K : W p l e room_1 s m #[Value.ref b] below meth c s₁.heap [] 0 0 (lw_Z below #[Value.ref b] s) (entryFrame m ([Value.ref b] : List Value).toArray 4) := by
      rw [hh0]
      exact whole_start l hbd ⟨B.exec, B.bytes, B.returns, hml, hown, hts, hX, hbl, B.notSynchronized, hgv⟩
    obtain ⟨t, a1, o, b1, b2, b3⟩ := K s₁ rfl X₀
    exact ⟨t, o, a1, b1, b2, b3⟩
theorem lw_pre_spec {args : Array Value} {s : State} (h : (Jvm.Cond.and given_1 narrow_1).before args s = true) (hr : rest_1_c.before args s = true) : ∃ (b : Addr) (xs : List Int32), lw_P b xs args s := by
  have hs := flat_of_before _ h
  have hq := flat_of_before _ hr
  have hc : (Cond.count 1).before args s = true := hs _ (by decide +kernel)
  have harr : (Cond.arrayOf (.arg 0) .int).before args s = true := hs _ (by decide +kernel)
  have hle : (Cond.le (.length (.arg 0)) (.int 3584)).before args s = true := hs _ (by decide +kernel)
  have hlen : (Cond.isInt (.length (.arg 0))).before args s = true := hq _ (by decide +kernel)
  have hall : (Cond.all (.arg 0) (.isInt (.elem (.arg 0) (.index 0)))).before args s = true := hq _ (by decide +kernel)
  obtain ⟨b, xs, hb, hx⟩ := State.ints_of_pre rfl harr hlen hall
  have hsm : xs.length < 2 ^ 31 := hx.choose_spec.2.2.2
  have hev : (Term.length (.arg 0)).eval args s none [] s = some (.int xs.length.toInt32) := hx.length_eval hb
  have hv := Cond.le_ints hev (show (Term.int 3584).eval args s none [] s = some (.int 3584) from rfl)
  have hd : xs.length.toInt32 ≤ 3584 := by
    simpa [Cond.before, Cond.holds, hv] using hle
  have hN : xs.length ≤ 3584 := (Int32.ofNat_le_ofNat hsm (by decide)).mp (show Int32.ofNat xs.length ≤ Int32.ofNat 3584 from hd)
  exact ⟨b, xs, Cond.one_arg hc (show args[0]? = some (.ref b) from hb), hx, hN, h⟩
theorem lw_comes (l : Launch) : Comes l x (Jvm.Cond.code x code maxLocals ret :: tables_1) room_1 (fun tb e args s => Calls_1 tb e args s ∧ rest_1 tb e args s ∧ Pre_1 tb e args s)
    (fun _ _ args s o t => lw_Q args s o t) := by
  intro p e ha hc hk s m args below hf hfit hheap happ hpre
  obtain ⟨b, xs, hP⟩ := lw_pre_spec hpre.2.2 hpre.2.1
  obtain ⟨k, o, h1, h2, h3, hQ⟩ := lw_walk l b xs p e ha hc hk s m args below hf ((Spec.applies_iff_loose hf).mp happ).1 hP trivial
  exact ⟨k, o, h1, h2, h3, hQ⟩
theorem lw_frame {s t : State} {o : Outcome} {args : Array Value} (h : Framed s o t [] 12 8239) :
    Framed s o t (fieldLocs frame_1_writes args s ++ arrayLocs frame_1_arrays args s ++ staticLocs frame_1_statics s) 12 8239 := h
theorem lw_limb (L : Cond) (hL : ∀ (args : Array Value) (s t : State), L.after args s (.returned (some (.int 1))) t = true) :
    ArmFor flags0 classFile x code maxLocals ret World_1 tables_1 room_1 Calls_1 rest_1 Pre_1
      (fun tb e a s o t => postC L tb e a s o t ∧ Framed s o t (fieldLocs frame_1_writes a s ++ arrayLocs frame_1_arrays a s ++ staticLocs frame_1_statics s) 12 8239) := by
  intro l _ _ _ p e ha hc hk s m args below hf hfit hheap happ hpre
  obtain ⟨k, o, h1, h2, h3, rfl, hF⟩ := lw_comes l p e ha hc hk s m args below hf hfit hheap happ hpre
  exact ⟨k, _, h1, h2, h3, hL args s _, lw_frame hF⟩
theorem i_vc : Claimed_1_1 ∧ Claimed_1_2 := ⟨lw_limb limb_1_1 (fun args s t => by simp [limb_1_1, Cond.after, Cond.holds, Cond.value]), lw_limb limb_1_2 (fun args s t => Cond.after_iff.mpr (by
  first | (rw [show limb_1_2 = Cond.eq .result (.int 1) from rfl, Cond.eq_ints (x := 1) (y := 1) rfl rfl]; simp; done) | (simp [limb_1_2, Cond.value, Term.eval]; done)))⟩
end
