section
-- ===== PART A: goes FIRST, ahead of the names: the tables' words, and 'selects' of the private methods out of them =====
/-- a private method of a class that the tables say can be made, by its rows of tables_1 -/
def lw_okq (q : MethodName × Nat) : Prop := (q.1.cls ≠ "java/lang/invoke/MethodHandle" ∧ q.1.cls ≠ "java/lang/invoke/VarHandle") ∧ Cond.instantiable q.1.cls q.2 ∈ tables_1 ∧ Cond.privateMethod q.1 ∈ tables_1 ∧ Cond.instanceMethod q.1 ∈ tables_1
theorem lw_p0 : lw_okq (⟨"CommitLog$Disk", "fills", "()V"⟩, 10) := ⟨⟨by decide +kernel, by decide +kernel⟩, List.mem_of_getElem? (i := 14) (by decide +kernel), List.mem_of_getElem? (i := 97) (by decide +kernel), List.mem_of_getElem? (i := 98) (by decide +kernel)⟩
theorem lw_p1 : lw_okq (⟨"CommitLog$Disk", "off", "()Z"⟩, 10) := ⟨⟨by decide +kernel, by decide +kernel⟩, List.mem_of_getElem? (i := 14) (by decide +kernel), List.mem_of_getElem? (i := 107) (by decide +kernel), List.mem_of_getElem? (i := 108) (by decide +kernel)⟩
theorem lw_p2 : lw_okq (⟨"CommitLog$Disk", "homes", "(I)V"⟩, 10) := ⟨⟨by decide +kernel, by decide +kernel⟩, List.mem_of_getElem? (i := 14) (by decide +kernel), List.mem_of_getElem? (i := 111) (by decide +kernel), List.mem_of_getElem? (i := 112) (by decide +kernel)⟩
theorem lw_p3 : lw_okq (⟨"CommitLogModel", "many", "()I"⟩, 10) := ⟨⟨by decide +kernel, by decide +kernel⟩, List.mem_of_getElem? (i := 139) (by decide +kernel), List.mem_of_getElem? (i := 202) (by decide +kernel), List.mem_of_getElem? (i := 203) (by decide +kernel)⟩
theorem lw_p4 : lw_okq (⟨"CommitLogModel", "note", "()V"⟩, 10) := ⟨⟨by decide +kernel, by decide +kernel⟩, List.mem_of_getElem? (i := 139) (by decide +kernel), List.mem_of_getElem? (i := 206) (by decide +kernel), List.mem_of_getElem? (i := 207) (by decide +kernel)⟩
theorem lw_p5 : lw_okq (⟨"CommitLogModel", "lay", "(I)V"⟩, 10) := ⟨⟨by decide +kernel, by decide +kernel⟩, List.mem_of_getElem? (i := 139) (by decide +kernel), List.mem_of_getElem? (i := 213) (by decide +kernel), List.mem_of_getElem? (i := 214) (by decide +kernel)⟩
theorem lw_p6 : lw_okq (⟨"CommitLogModel", "fresh", "()V"⟩, 10) := ⟨⟨by decide +kernel, by decide +kernel⟩, List.mem_of_getElem? (i := 139) (by decide +kernel), List.mem_of_getElem? (i := 221) (by decide +kernel), List.mem_of_getElem? (i := 222) (by decide +kernel)⟩
theorem lw_p7 : lw_okq (⟨"CommitLogModel", "loggedMany", "()I"⟩, 10) := ⟨⟨by decide +kernel, by decide +kernel⟩, List.mem_of_getElem? (i := 139) (by decide +kernel), List.mem_of_getElem? (i := 233) (by decide +kernel), List.mem_of_getElem? (i := 234) (by decide +kernel)⟩
def lw_privs_1 : List (MethodName × Nat) := [(⟨"CommitLog$Disk", "fills", "()V"⟩, 10), (⟨"CommitLog$Disk", "off", "()Z"⟩, 10), (⟨"CommitLog$Disk", "homes", "(I)V"⟩, 10), (⟨"CommitLogModel", "many", "()I"⟩, 10), (⟨"CommitLogModel", "note", "()V"⟩, 10), (⟨"CommitLogModel", "lay", "(I)V"⟩, 10), (⟨"CommitLogModel", "fresh", "()V"⟩, 10), (⟨"CommitLogModel", "loggedMany", "()I"⟩, 10)]
theorem lw_r1 : ∀ q ∈ lw_privs_1, lw_okq q := List.forall_mem_cons.mpr ⟨lw_p0, List.forall_mem_cons.mpr ⟨lw_p1, List.forall_mem_cons.mpr ⟨lw_p2, List.forall_mem_cons.mpr ⟨lw_p3, List.forall_mem_cons.mpr ⟨lw_p4, List.forall_mem_cons.mpr ⟨lw_p5, List.forall_mem_cons.mpr ⟨lw_p6, List.forall_mem_cons.mpr ⟨lw_p7, fun _ h => absurd h List.not_mem_nil⟩⟩⟩⟩⟩⟩⟩⟩
def lw_privs : List (MethodName × Nat) := lw_privs_1
def lw_tbl : List Cond := k2_sels lw_privs ++ tables_1
theorem lw_privs_ok : ∀ q ∈ lw_privs, lw_okq q := lw_r1
/-- the words that every method takes: all of the tables' that a call keeps -/
def TW : List Cond := lw_tbl.filter goodWord
theorem tw {k : Nat} {w : Cond} (h : lw_tbl[k]? = some w) (g : goodWord w = true) : w ∈ TW := List.mem_filter.mpr ⟨List.mem_of_getElem? h, g⟩
theorem twl {k : Nat} {w : Cond} (h : lw_tbl[k]? = some w) : w ∈ lw_tbl := List.mem_of_getElem? h
theorem gTW {ws : List Cond} (h : ∀ w ∈ ws, w ∈ TW) : GoodIn TW ws := fun w hw => ⟨h w hw, good_of_word (List.mem_filter.mp (h w hw)).2⟩
theorem gTWl {ws : List Cond} (h : ∀ w ∈ ws, w ∈ TW) : GoodIn lw_tbl ws := fun w hw => ⟨(List.mem_filter.mp (h w hw)).1, good_of_word (List.mem_filter.mp (h w hw)).2⟩
theorem htw_of {args : Array Value} {s : State} (h : ∀ w ∈ lw_tbl, w.before args s = true) : ∀ w ∈ TW, w.before args s = true := fun w hw => h w (List.mem_filter.mp hw).1
abbrev R_Log : String := "CommitLog"
abbrev R_Disk : String := "CommitLog$Disk"
abbrev R_Model : String := "CommitLogModel"
def F_Log : u_T := fun k => match k with
  | _ => ("CommitLog", "disk", "LCommitLog$Disk;", true)
def t_Log : Nat → FieldType := fun k => match k with
  | _ => .object "CommitLog$Disk"
abbrev w_Log : List Cond := u_ws R_Log F_Log 1
theorem n_Log : ∀ a, a < 1 → ∀ b, b < 1 → a ≠ b → (F_Log a).2.1 ≠ (F_Log b).2.1 := by decide +kernel
theorem t_Log_ok : ∀ k, k < 1 → parseFieldDescriptor (F_Log k).2.2.1 = some (t_Log k) := by decide +kernel
def F_Disk : u_T := fun k => match k with
  | 0 => ("CommitLog$Disk", "work", "[B", true)
  | 1 => ("CommitLog$Disk", "home", "[B", true)
  | 2 => ("CommitLog$Disk", "log", "[B", true)
  | 3 => ("CommitLog$Disk", "dirty", "[Z", true)
  | 4 => ("CommitLog$Disk", "logged", "[I", true)
  | 5 => ("CommitLog$Disk", "count", "I", false)
  | 6 => ("CommitLog$Disk", "marked", "Z", false)
  | 7 => ("CommitLog$Disk", "on", "Z", false)
  | 8 => ("CommitLog$Disk", "until", "I", false)
  | _ => ("CommitLog$Disk", "share", "I", false)
def t_Disk : Nat → FieldType := fun k => match k with
  | 0 => .array .byte
  | 1 => .array .byte
  | 2 => .array .byte
  | 3 => .array .boolean
  | 4 => .array .int
  | 5 => .int
  | 6 => .boolean
  | 7 => .boolean
  | 8 => .int
  | _ => .int
abbrev w_Disk : List Cond := u_ws R_Disk F_Disk 10
theorem n_Disk : ∀ a, a < 10 → ∀ b, b < 10 → a ≠ b → (F_Disk a).2.1 ≠ (F_Disk b).2.1 := by decide +kernel
theorem t_Disk_ok : ∀ k, k < 10 → parseFieldDescriptor (F_Disk k).2.2.1 = some (t_Disk k) := by decide +kernel
def F_Model : u_T := fun k => match k with
  | 0 => ("CommitLogModel", "work", "[B", true)
  | 1 => ("CommitLogModel", "disk", "[B", true)
  | 2 => ("CommitLogModel", "log", "[B", true)
  | 3 => ("CommitLogModel", "dirty", "[Z", true)
  | 4 => ("CommitLogModel", "logged", "[Z", true)
  | 5 => ("CommitLogModel", "off", "Z", false)
  | 6 => ("CommitLogModel", "mark", "Z", false)
  | 7 => ("CommitLogModel", "latest", "I", false)
  | 8 => ("CommitLogModel", "left", "I", false)
  | _ => ("CommitLogModel", "share", "I", false)
def t_Model : Nat → FieldType := fun k => match k with
  | 0 => .array .byte
  | 1 => .array .byte
  | 2 => .array .byte
  | 3 => .array .boolean
  | 4 => .array .boolean
  | 5 => .boolean
  | 6 => .boolean
  | 7 => .int
  | 8 => .int
  | _ => .int
abbrev w_Model : List Cond := u_ws R_Model F_Model 10
theorem n_Model : ∀ a, a < 10 → ∀ b, b < 10 → a ≠ b → (F_Model a).2.1 ≠ (F_Model b).2.1 := by decide +kernel
theorem t_Model_ok : ∀ k, k < 10 → parseFieldDescriptor (F_Model k).2.2.1 = some (t_Model k) := by decide +kernel
abbrev b_Log_init : ByteArray := prog_1_method_1_code
def y_Log_init : MethodName := ⟨R_Log, "<init>", "()V"⟩
abbrev k_Log_init : Cond := .code y_Log_init b_Log_init 1 none
abbrev b_Disk_init : ByteArray := prog_2_method_1_code
def y_Disk_init : MethodName := ⟨R_Disk, "<init>", "()V"⟩
abbrev k_Disk_init : Cond := .code y_Disk_init b_Disk_init 1 none
abbrev b_Log_write : ByteArray := prog_1_method_3_code
def y_Log_write : MethodName := ⟨R_Log, "write", "(III)Z"⟩
abbrev k_Log_write : Cond := .code y_Log_write b_Log_write 4 (some .boolean)
abbrev b_Log_is : ByteArray := prog_1_method_2_code
def y_Log_is : MethodName := ⟨R_Log, "is", "(II)Z"⟩
abbrev k_Log_is : Cond := .code y_Log_is b_Log_is 2 (some .boolean)
abbrev b_Disk_touch : ByteArray := prog_2_method_3_code
def y_Disk_touch : MethodName := ⟨R_Disk, "touch", "(I)V"⟩
abbrev k_Disk_touch : Cond := .code y_Disk_touch b_Disk_touch 2 none
abbrev b_Log_read : ByteArray := prog_1_method_4_code
def y_Log_read : MethodName := ⟨R_Log, "read", "(II)I"⟩
abbrev k_Log_read : Cond := .code y_Log_read b_Log_read 3 (some .int)
abbrev b_Log_disk : ByteArray := prog_1_method_5_code
def y_Log_disk : MethodName := ⟨R_Log, "disk", "(II)I"⟩
abbrev k_Log_disk : Cond := .code y_Log_disk b_Log_disk 3 (some .int)
abbrev b_Log_dirty : ByteArray := prog_1_method_6_code
def y_Log_dirty : MethodName := ⟨R_Log, "dirty", "(I)Z"⟩
abbrev k_Log_dirty : Cond := .code y_Log_dirty b_Log_dirty 2 (some .boolean)
abbrev b_Log_commit : ByteArray := prog_1_method_7_code
def y_Log_commit : MethodName := ⟨R_Log, "commit", "()Z"⟩
abbrev k_Log_commit : Cond := .code y_Log_commit b_Log_commit 1 (some .boolean)
abbrev b_Disk_commit : ByteArray := prog_2_method_7_code
def y_Disk_commit : MethodName := ⟨R_Disk, "commit", "()Z"⟩
abbrev k_Disk_commit : Cond := .code y_Disk_commit b_Disk_commit 4 (some .boolean)
abbrev b_Disk_fills : ByteArray := prog_2_method_5_code
def y_Disk_fills : MethodName := ⟨R_Disk, "fills", "()V"⟩
abbrev k_Disk_fills : Cond := .code y_Disk_fills b_Disk_fills 2 none
abbrev b_Disk_copy : ByteArray := prog_2_method_2_code
def y_Disk_copy : MethodName := ⟨R_Disk, "copy", "([BI[BI)V"⟩
abbrev k_Disk_copy : Cond := .code y_Disk_copy b_Disk_copy 4 none
abbrev b_Disk_off : ByteArray := prog_2_method_8_code
def y_Disk_off : MethodName := ⟨R_Disk, "off", "()Z"⟩
abbrev k_Disk_off : Cond := .code y_Disk_off b_Disk_off 1 (some .boolean)
abbrev b_Disk_homes : ByteArray := prog_2_method_6_code
def y_Disk_homes : MethodName := ⟨R_Disk, "homes", "(I)V"⟩
abbrev k_Disk_homes : Cond := .code y_Disk_homes b_Disk_homes 3 none
abbrev b_Log_revert : ByteArray := prog_1_method_8_code
def y_Log_revert : MethodName := ⟨R_Log, "revert", "()Z"⟩
abbrev k_Log_revert : Cond := .code y_Log_revert b_Log_revert 1 (some .boolean)
abbrev b_Disk_revert : ByteArray := prog_2_method_4_code
def y_Disk_revert : MethodName := ⟨R_Disk, "revert", "()V"⟩
abbrev k_Disk_revert : Cond := .code y_Disk_revert b_Disk_revert 2 none
abbrev b_Log_cut : ByteArray := prog_1_method_9_code
def y_Log_cut : MethodName := ⟨R_Log, "cut", "(II)Z"⟩
abbrev k_Log_cut : Cond := .code y_Log_cut b_Log_cut 3 (some .boolean)
abbrev b_Log_start : ByteArray := prog_1_method_10_code
def y_Log_start : MethodName := ⟨R_Log, "start", "(I)Z"⟩
abbrev k_Log_start : Cond := .code y_Log_start b_Log_start 2 (some .boolean)
abbrev b_Disk_start : ByteArray := prog_2_method_9_code
def y_Disk_start : MethodName := ⟨R_Disk, "start", "(I)Z"⟩
abbrev k_Disk_start : Cond := .code y_Disk_start b_Disk_start 4 (some .boolean)
abbrev b_Log_state : ByteArray := prog_1_method_11_code
def y_Log_state : MethodName := ⟨R_Log, "state", "(I)I"⟩
abbrev k_Log_state : Cond := .code y_Log_state b_Log_state 2 (some .int)
abbrev b_Model_init : ByteArray := prog_4_method_1_code
def y_Model_init : MethodName := ⟨R_Model, "<init>", "()V"⟩
abbrev k_Model_init : Cond := .code y_Model_init b_Model_init 1 none
abbrev b_Model_write : ByteArray := prog_4_method_4_code
def y_Model_write : MethodName := ⟨R_Model, "write", "(III)Z"⟩
abbrev k_Model_write : Cond := .code y_Model_write b_Model_write 4 (some .boolean)
abbrev b_Model_isPlace : ByteArray := prog_4_method_3_code
def y_Model_isPlace : MethodName := ⟨R_Model, "isPlace", "(II)Z"⟩
abbrev k_Model_isPlace : Cond := .code y_Model_isPlace b_Model_isPlace 2 (some .boolean)
abbrev b_Model_in : ByteArray := prog_4_method_2_code
def y_Model_in : MethodName := ⟨R_Model, "in", "(III)Z"⟩
abbrev k_Model_in : Cond := .code y_Model_in b_Model_in 3 (some .boolean)
abbrev b_Model_read : ByteArray := prog_4_method_5_code
def y_Model_read : MethodName := ⟨R_Model, "read", "(II)I"⟩
abbrev k_Model_read : Cond := .code y_Model_read b_Model_read 3 (some .int)
abbrev b_Model_disk : ByteArray := prog_4_method_6_code
def y_Model_disk : MethodName := ⟨R_Model, "disk", "(II)I"⟩
abbrev k_Model_disk : Cond := .code y_Model_disk b_Model_disk 3 (some .int)
abbrev b_Model_dirty : ByteArray := prog_4_method_7_code
def y_Model_dirty : MethodName := ⟨R_Model, "dirty", "(I)Z"⟩
abbrev k_Model_dirty : Cond := .code y_Model_dirty b_Model_dirty 2 (some .boolean)
abbrev b_Model_commit : ByteArray := prog_4_method_13_code
def y_Model_commit : MethodName := ⟨R_Model, "commit", "()Z"⟩
abbrev k_Model_commit : Cond := .code y_Model_commit b_Model_commit 3 (some .boolean)
abbrev b_Model_many : ByteArray := prog_4_method_9_code
def y_Model_many : MethodName := ⟨R_Model, "many", "()I"⟩
abbrev k_Model_many : Cond := .code y_Model_many b_Model_many 3 (some .int)
abbrev b_Model_note : ByteArray := prog_4_method_10_code
def y_Model_note : MethodName := ⟨R_Model, "note", "()V"⟩
abbrev k_Model_note : Cond := .code y_Model_note b_Model_note 2 none
abbrev b_Model_copy : ByteArray := prog_4_method_8_code
def y_Model_copy : MethodName := ⟨R_Model, "copy", "([B[BI)V"⟩
abbrev k_Model_copy : Cond := .code y_Model_copy b_Model_copy 4 none
abbrev b_Model_lay : ByteArray := prog_4_method_11_code
def y_Model_lay : MethodName := ⟨R_Model, "lay", "(I)V"⟩
abbrev k_Model_lay : Cond := .code y_Model_lay b_Model_lay 4 none
abbrev b_Model_revert : ByteArray := prog_4_method_14_code
def y_Model_revert : MethodName := ⟨R_Model, "revert", "()Z"⟩
abbrev k_Model_revert : Cond := .code y_Model_revert b_Model_revert 1 (some .boolean)
abbrev b_Model_fresh : ByteArray := prog_4_method_12_code
def y_Model_fresh : MethodName := ⟨R_Model, "fresh", "()V"⟩
abbrev k_Model_fresh : Cond := .code y_Model_fresh b_Model_fresh 2 none
abbrev b_Model_cut : ByteArray := prog_4_method_15_code
def y_Model_cut : MethodName := ⟨R_Model, "cut", "(II)Z"⟩
abbrev k_Model_cut : Cond := .code y_Model_cut b_Model_cut 3 (some .boolean)
abbrev b_Model_start : ByteArray := prog_4_method_17_code
def y_Model_start : MethodName := ⟨R_Model, "start", "(I)Z"⟩
abbrev k_Model_start : Cond := .code y_Model_start b_Model_start 2 (some .boolean)
abbrev b_Model_loggedMany : ByteArray := prog_4_method_16_code
def y_Model_loggedMany : MethodName := ⟨R_Model, "loggedMany", "()I"⟩
abbrev k_Model_loggedMany : Cond := .code y_Model_loggedMany b_Model_loggedMany 3 (some .int)
abbrev b_Model_state : ByteArray := prog_4_method_18_code
def y_Model_state : MethodName := ⟨R_Model, "state", "(I)I"⟩
abbrev k_Model_state : Cond := .code y_Model_state b_Model_state 2 (some .int)
theorem tw_8 : (Jvm.Cond.initialized "CommitLogLaw") ∈ TW := tw (k := 8) rfl rfl
theorem tw_9 : (Jvm.Cond.initialized "CommitLog") ∈ TW := tw (k := 9) rfl rfl
theorem tw_10 : (Jvm.Cond.initialized "CommitLog$Disk") ∈ TW := tw (k := 10) rfl rfl
theorem tw_11 : (Jvm.Cond.initialized "CommitLogModel") ∈ TW := tw (k := 11) rfl rfl
theorem tw_12 : (Jvm.Cond.initialized "java/lang/System") ∈ TW := tw (k := 12) rfl rfl
theorem tw_13 : (Jvm.Cond.classLink "CommitLogLaw" (7 : Nat) "CommitLog") ∈ TW := tw (k := 13) rfl rfl
theorem tw_14 : (Jvm.Cond.instantiable "CommitLog" (1 : Nat)) ∈ TW := tw (k := 14) rfl rfl
theorem tw_15 : (Jvm.Cond.methodLink "CommitLogLaw" (9 : Nat) y_Log_init) ∈ TW := tw (k := 15) rfl rfl
theorem tw_16 : (Jvm.Cond.instanceMethod y_Log_init) ∈ TW := tw (k := 16) rfl rfl
theorem tw_17 : k_Log_init ∈ TW := tw (k := 17) rfl rfl
theorem tw_18 : (Jvm.Cond.methodLink "CommitLog" (1 : Nat) objectInit) ∈ TW := tw (k := 18) rfl rfl
theorem tw_19 : (Jvm.Cond.instanceMethod objectInit) ∈ TW := tw (k := 19) rfl rfl
theorem tw_20 : Cond.code objectInit ⟨#[0xb1]⟩ 1 none ∈ TW := tw (k := 20) rfl rfl
theorem tw_21 : (Jvm.Cond.classLink "CommitLog" (7 : Nat) "CommitLog$Disk") ∈ TW := tw (k := 21) rfl rfl
theorem tw_22 : (Jvm.Cond.instantiable "CommitLog$Disk" (10 : Nat)) ∈ TW := tw (k := 22) rfl rfl
theorem tw_24 : (Jvm.Cond.instanceMethod y_Disk_init) ∈ TW := tw (k := 24) rfl rfl
theorem tw_25 : k_Disk_init ∈ TW := tw (k := 25) rfl rfl
theorem tw_26 : (Jvm.Cond.methodLink "CommitLog$Disk" (1 : Nat) objectInit) ∈ TW := tw (k := 26) rfl rfl
theorem tw_27 : (Jvm.Cond.fieldLink "CommitLog$Disk" (9 : Nat) "CommitLog$Disk" "work" "[B") ∈ TW := tw (k := 27) rfl rfl
theorem tw_29 : (Jvm.Cond.fieldLink "CommitLog$Disk" (13 : Nat) "CommitLog$Disk" "home" "[B") ∈ TW := tw (k := 29) rfl rfl
theorem tw_31 : (Jvm.Cond.fieldLink "CommitLog$Disk" (16 : Nat) "CommitLog$Disk" "log" "[B") ∈ TW := tw (k := 31) rfl rfl
theorem tw_32 : (Jvm.Cond.fieldLink "CommitLog$Disk" (19 : Nat) "CommitLog$Disk" "dirty" "[Z") ∈ TW := tw (k := 32) rfl rfl
theorem tw_34 : (Jvm.Cond.fieldLink "CommitLog$Disk" (23 : Nat) "CommitLog$Disk" "logged" "[I") ∈ TW := tw (k := 34) rfl rfl
theorem tw_35 : (Jvm.Cond.fieldLink "CommitLog$Disk" (41 : Nat) "CommitLog$Disk" "count" "I") ∈ TW := tw (k := 35) rfl rfl
theorem tw_37 : (Jvm.Cond.fieldLink "CommitLog$Disk" (58 : Nat) "CommitLog$Disk" "marked" "Z") ∈ TW := tw (k := 37) rfl rfl
theorem tw_39 : (Jvm.Cond.fieldLink "CommitLog$Disk" (27 : Nat) "CommitLog$Disk" "on" "Z") ∈ TW := tw (k := 39) rfl rfl
theorem tw_41 : (Jvm.Cond.fieldLink "CommitLog$Disk" (48 : Nat) "CommitLog$Disk" "until" "I") ∈ TW := tw (k := 41) rfl rfl
theorem tw_43 : (Jvm.Cond.fieldLink "CommitLog$Disk" (51 : Nat) "CommitLog$Disk" "share" "I") ∈ TW := tw (k := 43) rfl rfl
theorem tw_45 : (Jvm.Cond.laysFinal "CommitLog$Disk" "CommitLog$Disk" "work" "[B") ∈ TW := tw (k := 45) rfl rfl
theorem tw_47 : (Jvm.Cond.laysFinal "CommitLog$Disk" "CommitLog$Disk" "home" "[B") ∈ TW := tw (k := 47) rfl rfl
theorem tw_49 : (Jvm.Cond.laysFinal "CommitLog$Disk" "CommitLog$Disk" "log" "[B") ∈ TW := tw (k := 49) rfl rfl
theorem tw_51 : (Jvm.Cond.laysFinal "CommitLog$Disk" "CommitLog$Disk" "dirty" "[Z") ∈ TW := tw (k := 51) rfl rfl
theorem tw_53 : (Jvm.Cond.laysFinal "CommitLog$Disk" "CommitLog$Disk" "logged" "[I") ∈ TW := tw (k := 53) rfl rfl
theorem tw_55 : (Jvm.Cond.lays "CommitLog$Disk" "CommitLog$Disk" "count" "I") ∈ TW := tw (k := 55) rfl rfl
theorem tw_57 : (Jvm.Cond.lays "CommitLog$Disk" "CommitLog$Disk" "marked" "Z") ∈ TW := tw (k := 57) rfl rfl
theorem tw_59 : (Jvm.Cond.lays "CommitLog$Disk" "CommitLog$Disk" "on" "Z") ∈ TW := tw (k := 59) rfl rfl
theorem tw_61 : (Jvm.Cond.lays "CommitLog$Disk" "CommitLog$Disk" "until" "I") ∈ TW := tw (k := 61) rfl rfl
theorem tw_63 : (Jvm.Cond.lays "CommitLog$Disk" "CommitLog$Disk" "share" "I") ∈ TW := tw (k := 63) rfl rfl
theorem tw_66 : (Jvm.Cond.arrayClass Jvm.ClassFile.FieldType.byte) ∈ TW := tw (k := 66) rfl rfl
theorem tw_67 : (Jvm.Cond.arrayClass Jvm.ClassFile.FieldType.boolean) ∈ TW := tw (k := 67) rfl rfl
theorem tw_68 : (Jvm.Cond.arrayClass Jvm.ClassFile.FieldType.int) ∈ TW := tw (k := 68) rfl rfl
theorem tw_69 : (Jvm.Cond.fieldLink "CommitLog" (10 : Nat) "CommitLog" "disk" "LCommitLog$Disk;") ∈ TW := tw (k := 69) rfl rfl
theorem tw_70 : (Jvm.Cond.laysFinal "CommitLog" "CommitLog" "disk" "LCommitLog$Disk;") ∈ TW := tw (k := 70) rfl rfl
theorem tw_73 : (Jvm.Cond.methodLink "CommitLogLaw" (13 : Nat) y_Log_write) ∈ TW := tw (k := 73) rfl rfl
theorem tw_74 : (Jvm.Cond.instanceMethod y_Log_write) ∈ TW := tw (k := 74) rfl rfl
theorem tw_75 : (Jvm.Cond.selects "CommitLog" y_Log_write y_Log_write) ∈ TW := tw (k := 75) rfl rfl
theorem tw_76 : k_Log_write ∈ TW := tw (k := 76) rfl rfl
theorem tw_77 : (Jvm.Cond.methodLink "CommitLog" (20 : Nat) y_Log_is) ∈ TW := tw (k := 77) rfl rfl
theorem tw_78 : (Jvm.Cond.static y_Log_is) ∈ TW := tw (k := 78) rfl rfl
theorem tw_79 : k_Log_is ∈ TW := tw (k := 79) rfl rfl
theorem tw_80 : (Jvm.Cond.methodLink "CommitLog" (28 : Nat) y_Disk_touch) ∈ TW := tw (k := 80) rfl rfl
theorem tw_81 : (Jvm.Cond.instanceMethod y_Disk_touch) ∈ TW := tw (k := 81) rfl rfl
theorem tw_82 : (Jvm.Cond.selects "CommitLog$Disk" y_Disk_touch y_Disk_touch) ∈ TW := tw (k := 82) rfl rfl
theorem tw_83 : k_Disk_touch ∈ TW := tw (k := 83) rfl rfl
theorem tw_84 : (Jvm.Cond.methodLink "CommitLogLaw" (18 : Nat) y_Log_read) ∈ TW := tw (k := 84) rfl rfl
theorem tw_85 : (Jvm.Cond.instanceMethod y_Log_read) ∈ TW := tw (k := 85) rfl rfl
theorem tw_86 : (Jvm.Cond.selects "CommitLog" y_Log_read y_Log_read) ∈ TW := tw (k := 86) rfl rfl
theorem tw_87 : k_Log_read ∈ TW := tw (k := 87) rfl rfl
theorem tw_88 : (Jvm.Cond.methodLink "CommitLogLaw" (23 : Nat) y_Log_disk) ∈ TW := tw (k := 88) rfl rfl
theorem tw_89 : (Jvm.Cond.instanceMethod y_Log_disk) ∈ TW := tw (k := 89) rfl rfl
theorem tw_90 : (Jvm.Cond.selects "CommitLog" y_Log_disk y_Log_disk) ∈ TW := tw (k := 90) rfl rfl
theorem tw_91 : k_Log_disk ∈ TW := tw (k := 91) rfl rfl
theorem tw_92 : (Jvm.Cond.methodLink "CommitLogLaw" (27 : Nat) y_Log_dirty) ∈ TW := tw (k := 92) rfl rfl
theorem tw_93 : (Jvm.Cond.instanceMethod y_Log_dirty) ∈ TW := tw (k := 93) rfl rfl
theorem tw_94 : (Jvm.Cond.selects "CommitLog" y_Log_dirty y_Log_dirty) ∈ TW := tw (k := 94) rfl rfl
theorem tw_95 : k_Log_dirty ∈ TW := tw (k := 95) rfl rfl
theorem tw_96 : (Jvm.Cond.methodLink "CommitLogLaw" (32 : Nat) y_Log_commit) ∈ TW := tw (k := 96) rfl rfl
theorem tw_97 : (Jvm.Cond.instanceMethod y_Log_commit) ∈ TW := tw (k := 97) rfl rfl
theorem tw_98 : (Jvm.Cond.selects "CommitLog" y_Log_commit y_Log_commit) ∈ TW := tw (k := 98) rfl rfl
theorem tw_99 : k_Log_commit ∈ TW := tw (k := 99) rfl rfl
theorem tw_100 : (Jvm.Cond.methodLink "CommitLog" (39 : Nat) y_Disk_commit) ∈ TW := tw (k := 100) rfl rfl
theorem tw_101 : (Jvm.Cond.instanceMethod y_Disk_commit) ∈ TW := tw (k := 101) rfl rfl
theorem tw_102 : (Jvm.Cond.selects "CommitLog$Disk" y_Disk_commit y_Disk_commit) ∈ TW := tw (k := 102) rfl rfl
theorem tw_103 : k_Disk_commit ∈ TW := tw (k := 103) rfl rfl
theorem tw_104 : (Jvm.Cond.methodLink "CommitLog$Disk" (45 : Nat) y_Disk_fills) ∈ TW := tw (k := 104) rfl rfl
theorem tw_106 : (Jvm.Cond.instanceMethod y_Disk_fills) ∈ TW := tw (k := 106) rfl rfl
theorem tw_107 : k_Disk_fills ∈ TW := tw (k := 107) rfl rfl
theorem tw_108 : (Jvm.Cond.methodLink "CommitLog$Disk" (37 : Nat) y_Disk_copy) ∈ TW := tw (k := 108) rfl rfl
theorem tw_109 : (Jvm.Cond.static y_Disk_copy) ∈ TW := tw (k := 109) rfl rfl
theorem tw_110 : k_Disk_copy ∈ TW := tw (k := 110) rfl rfl
theorem tw_111 : (Jvm.Cond.methodLink "CommitLog$Disk" (31 : Nat) arraycopyName) ∈ TW := tw (k := 111) rfl rfl
theorem tw_112 : (Jvm.Cond.static arraycopyName) ∈ TW := tw (k := 112) rfl rfl
theorem tw_113 : (Jvm.Cond.native arraycopyName) ∈ TW := tw (k := 113) rfl rfl
theorem tw_114 : (Jvm.Cond.methodLink "CommitLog$Disk" (54 : Nat) y_Disk_off) ∈ TW := tw (k := 114) rfl rfl
theorem tw_116 : (Jvm.Cond.instanceMethod y_Disk_off) ∈ TW := tw (k := 116) rfl rfl
theorem tw_117 : k_Disk_off ∈ TW := tw (k := 117) rfl rfl
theorem tw_118 : (Jvm.Cond.methodLink "CommitLog$Disk" (61 : Nat) y_Disk_homes) ∈ TW := tw (k := 118) rfl rfl
theorem tw_120 : (Jvm.Cond.instanceMethod y_Disk_homes) ∈ TW := tw (k := 120) rfl rfl
theorem tw_121 : k_Disk_homes ∈ TW := tw (k := 121) rfl rfl
theorem tw_122 : (Jvm.Cond.methodLink "CommitLogLaw" (37 : Nat) y_Log_revert) ∈ TW := tw (k := 122) rfl rfl
theorem tw_123 : (Jvm.Cond.instanceMethod y_Log_revert) ∈ TW := tw (k := 123) rfl rfl
theorem tw_124 : (Jvm.Cond.selects "CommitLog" y_Log_revert y_Log_revert) ∈ TW := tw (k := 124) rfl rfl
theorem tw_125 : k_Log_revert ∈ TW := tw (k := 125) rfl rfl
theorem tw_126 : (Jvm.Cond.methodLink "CommitLog" (43 : Nat) y_Disk_revert) ∈ TW := tw (k := 126) rfl rfl
theorem tw_127 : (Jvm.Cond.instanceMethod y_Disk_revert) ∈ TW := tw (k := 127) rfl rfl
theorem tw_128 : (Jvm.Cond.selects "CommitLog$Disk" y_Disk_revert y_Disk_revert) ∈ TW := tw (k := 128) rfl rfl
theorem tw_129 : k_Disk_revert ∈ TW := tw (k := 129) rfl rfl
theorem tw_130 : (Jvm.Cond.methodLink "CommitLogLaw" (41 : Nat) y_Log_cut) ∈ TW := tw (k := 130) rfl rfl
theorem tw_131 : (Jvm.Cond.instanceMethod y_Log_cut) ∈ TW := tw (k := 131) rfl rfl
theorem tw_132 : (Jvm.Cond.selects "CommitLog" y_Log_cut y_Log_cut) ∈ TW := tw (k := 132) rfl rfl
theorem tw_133 : k_Log_cut ∈ TW := tw (k := 133) rfl rfl
theorem tw_134 : (Jvm.Cond.methodLink "CommitLogLaw" (46 : Nat) y_Log_start) ∈ TW := tw (k := 134) rfl rfl
theorem tw_135 : (Jvm.Cond.instanceMethod y_Log_start) ∈ TW := tw (k := 135) rfl rfl
theorem tw_136 : (Jvm.Cond.selects "CommitLog" y_Log_start y_Log_start) ∈ TW := tw (k := 136) rfl rfl
theorem tw_137 : k_Log_start ∈ TW := tw (k := 137) rfl rfl
theorem tw_138 : (Jvm.Cond.methodLink "CommitLog" (53 : Nat) y_Disk_start) ∈ TW := tw (k := 138) rfl rfl
theorem tw_139 : (Jvm.Cond.instanceMethod y_Disk_start) ∈ TW := tw (k := 139) rfl rfl
theorem tw_140 : (Jvm.Cond.selects "CommitLog$Disk" y_Disk_start y_Disk_start) ∈ TW := tw (k := 140) rfl rfl
theorem tw_141 : k_Disk_start ∈ TW := tw (k := 141) rfl rfl
theorem tw_142 : (Jvm.Cond.methodLink "CommitLogLaw" (50 : Nat) y_Log_state) ∈ TW := tw (k := 142) rfl rfl
theorem tw_143 : (Jvm.Cond.instanceMethod y_Log_state) ∈ TW := tw (k := 143) rfl rfl
theorem tw_144 : (Jvm.Cond.selects "CommitLog" y_Log_state y_Log_state) ∈ TW := tw (k := 144) rfl rfl
theorem tw_145 : k_Log_state ∈ TW := tw (k := 145) rfl rfl
theorem tw_146 : (Jvm.Cond.classLink "CommitLogLaw" (10 : Nat) "CommitLogModel") ∈ TW := tw (k := 146) rfl rfl
theorem tw_147 : (Jvm.Cond.instantiable "CommitLogModel" (10 : Nat)) ∈ TW := tw (k := 147) rfl rfl
theorem tw_148 : (Jvm.Cond.methodLink "CommitLogLaw" (12 : Nat) y_Model_init) ∈ TW := tw (k := 148) rfl rfl
theorem tw_149 : (Jvm.Cond.instanceMethod y_Model_init) ∈ TW := tw (k := 149) rfl rfl
theorem tw_150 : k_Model_init ∈ TW := tw (k := 150) rfl rfl
theorem tw_151 : (Jvm.Cond.methodLink "CommitLogModel" (1 : Nat) objectInit) ∈ TW := tw (k := 151) rfl rfl
theorem tw_152 : (Jvm.Cond.fieldLink "CommitLogModel" (7 : Nat) "CommitLogModel" "work" "[B") ∈ TW := tw (k := 152) rfl rfl
theorem tw_153 : (Jvm.Cond.fieldLink "CommitLogModel" (13 : Nat) "CommitLogModel" "disk" "[B") ∈ TW := tw (k := 153) rfl rfl
theorem tw_154 : (Jvm.Cond.fieldLink "CommitLogModel" (16 : Nat) "CommitLogModel" "log" "[B") ∈ TW := tw (k := 154) rfl rfl
theorem tw_155 : (Jvm.Cond.fieldLink "CommitLogModel" (19 : Nat) "CommitLogModel" "dirty" "[Z") ∈ TW := tw (k := 155) rfl rfl
theorem tw_156 : (Jvm.Cond.fieldLink "CommitLogModel" (23 : Nat) "CommitLogModel" "logged" "[Z") ∈ TW := tw (k := 156) rfl rfl
theorem tw_157 : (Jvm.Cond.fieldLink "CommitLogModel" (30 : Nat) "CommitLogModel" "off" "Z") ∈ TW := tw (k := 157) rfl rfl
theorem tw_158 : (Jvm.Cond.fieldLink "CommitLogModel" (42 : Nat) "CommitLogModel" "mark" "Z") ∈ TW := tw (k := 158) rfl rfl
theorem tw_159 : (Jvm.Cond.fieldLink "CommitLogModel" (49 : Nat) "CommitLogModel" "latest" "I") ∈ TW := tw (k := 159) rfl rfl
theorem tw_160 : (Jvm.Cond.fieldLink "CommitLogModel" (53 : Nat) "CommitLogModel" "left" "I") ∈ TW := tw (k := 160) rfl rfl
theorem tw_161 : (Jvm.Cond.fieldLink "CommitLogModel" (56 : Nat) "CommitLogModel" "share" "I") ∈ TW := tw (k := 161) rfl rfl
theorem tw_162 : (Jvm.Cond.laysFinal "CommitLogModel" "CommitLogModel" "work" "[B") ∈ TW := tw (k := 162) rfl rfl
theorem tw_164 : (Jvm.Cond.laysFinal "CommitLogModel" "CommitLogModel" "disk" "[B") ∈ TW := tw (k := 164) rfl rfl
theorem tw_166 : (Jvm.Cond.laysFinal "CommitLogModel" "CommitLogModel" "log" "[B") ∈ TW := tw (k := 166) rfl rfl
theorem tw_168 : (Jvm.Cond.laysFinal "CommitLogModel" "CommitLogModel" "dirty" "[Z") ∈ TW := tw (k := 168) rfl rfl
theorem tw_170 : (Jvm.Cond.laysFinal "CommitLogModel" "CommitLogModel" "logged" "[Z") ∈ TW := tw (k := 170) rfl rfl
theorem tw_172 : (Jvm.Cond.lays "CommitLogModel" "CommitLogModel" "off" "Z") ∈ TW := tw (k := 172) rfl rfl
theorem tw_174 : (Jvm.Cond.lays "CommitLogModel" "CommitLogModel" "mark" "Z") ∈ TW := tw (k := 174) rfl rfl
theorem tw_176 : (Jvm.Cond.lays "CommitLogModel" "CommitLogModel" "latest" "I") ∈ TW := tw (k := 176) rfl rfl
theorem tw_178 : (Jvm.Cond.lays "CommitLogModel" "CommitLogModel" "left" "I") ∈ TW := tw (k := 178) rfl rfl
theorem tw_180 : (Jvm.Cond.lays "CommitLogModel" "CommitLogModel" "share" "I") ∈ TW := tw (k := 180) rfl rfl
theorem tw_183 : (Jvm.Cond.methodLink "CommitLogLaw" (17 : Nat) y_Model_write) ∈ TW := tw (k := 183) rfl rfl
theorem tw_184 : (Jvm.Cond.instanceMethod y_Model_write) ∈ TW := tw (k := 184) rfl rfl
theorem tw_185 : (Jvm.Cond.selects "CommitLogModel" y_Model_write y_Model_write) ∈ TW := tw (k := 185) rfl rfl
theorem tw_186 : k_Model_write ∈ TW := tw (k := 186) rfl rfl
theorem tw_187 : (Jvm.Cond.methodLink "CommitLogModel" (34 : Nat) y_Model_isPlace) ∈ TW := tw (k := 187) rfl rfl
theorem tw_188 : (Jvm.Cond.static y_Model_isPlace) ∈ TW := tw (k := 188) rfl rfl
theorem tw_189 : k_Model_isPlace ∈ TW := tw (k := 189) rfl rfl
theorem tw_190 : (Jvm.Cond.methodLink "CommitLogModel" (26 : Nat) y_Model_in) ∈ TW := tw (k := 190) rfl rfl
theorem tw_191 : (Jvm.Cond.static y_Model_in) ∈ TW := tw (k := 191) rfl rfl
theorem tw_192 : k_Model_in ∈ TW := tw (k := 192) rfl rfl
theorem tw_193 : (Jvm.Cond.methodLink "CommitLogLaw" (22 : Nat) y_Model_read) ∈ TW := tw (k := 193) rfl rfl
theorem tw_194 : (Jvm.Cond.instanceMethod y_Model_read) ∈ TW := tw (k := 194) rfl rfl
theorem tw_195 : (Jvm.Cond.selects "CommitLogModel" y_Model_read y_Model_read) ∈ TW := tw (k := 195) rfl rfl
theorem tw_196 : k_Model_read ∈ TW := tw (k := 196) rfl rfl
theorem tw_197 : (Jvm.Cond.methodLink "CommitLogLaw" (26 : Nat) y_Model_disk) ∈ TW := tw (k := 197) rfl rfl
theorem tw_198 : (Jvm.Cond.instanceMethod y_Model_disk) ∈ TW := tw (k := 198) rfl rfl
theorem tw_199 : (Jvm.Cond.selects "CommitLogModel" y_Model_disk y_Model_disk) ∈ TW := tw (k := 199) rfl rfl
theorem tw_200 : k_Model_disk ∈ TW := tw (k := 200) rfl rfl
theorem tw_201 : (Jvm.Cond.methodLink "CommitLogLaw" (31 : Nat) y_Model_dirty) ∈ TW := tw (k := 201) rfl rfl
theorem tw_202 : (Jvm.Cond.instanceMethod y_Model_dirty) ∈ TW := tw (k := 202) rfl rfl
theorem tw_203 : (Jvm.Cond.selects "CommitLogModel" y_Model_dirty y_Model_dirty) ∈ TW := tw (k := 203) rfl rfl
theorem tw_204 : k_Model_dirty ∈ TW := tw (k := 204) rfl rfl
theorem tw_205 : (Jvm.Cond.methodLink "CommitLogLaw" (36 : Nat) y_Model_commit) ∈ TW := tw (k := 205) rfl rfl
theorem tw_206 : (Jvm.Cond.instanceMethod y_Model_commit) ∈ TW := tw (k := 206) rfl rfl
theorem tw_207 : (Jvm.Cond.selects "CommitLogModel" y_Model_commit y_Model_commit) ∈ TW := tw (k := 207) rfl rfl
theorem tw_208 : k_Model_commit ∈ TW := tw (k := 208) rfl rfl
theorem tw_209 : (Jvm.Cond.methodLink "CommitLogModel" (45 : Nat) y_Model_many) ∈ TW := tw (k := 209) rfl rfl
theorem tw_211 : (Jvm.Cond.instanceMethod y_Model_many) ∈ TW := tw (k := 211) rfl rfl
theorem tw_212 : k_Model_many ∈ TW := tw (k := 212) rfl rfl
theorem tw_213 : (Jvm.Cond.methodLink "CommitLogModel" (59 : Nat) y_Model_note) ∈ TW := tw (k := 213) rfl rfl
theorem tw_215 : (Jvm.Cond.instanceMethod y_Model_note) ∈ TW := tw (k := 215) rfl rfl
theorem tw_216 : k_Model_note ∈ TW := tw (k := 216) rfl rfl
theorem tw_217 : (Jvm.Cond.methodLink "CommitLogModel" (38 : Nat) y_Model_copy) ∈ TW := tw (k := 217) rfl rfl
theorem tw_218 : (Jvm.Cond.static y_Model_copy) ∈ TW := tw (k := 218) rfl rfl
theorem tw_219 : k_Model_copy ∈ TW := tw (k := 219) rfl rfl
theorem tw_220 : (Jvm.Cond.methodLink "CommitLogModel" (62 : Nat) y_Model_lay) ∈ TW := tw (k := 220) rfl rfl
theorem tw_222 : (Jvm.Cond.instanceMethod y_Model_lay) ∈ TW := tw (k := 222) rfl rfl
theorem tw_223 : k_Model_lay ∈ TW := tw (k := 223) rfl rfl
theorem tw_224 : (Jvm.Cond.methodLink "CommitLogLaw" (40 : Nat) y_Model_revert) ∈ TW := tw (k := 224) rfl rfl
theorem tw_225 : (Jvm.Cond.instanceMethod y_Model_revert) ∈ TW := tw (k := 225) rfl rfl
theorem tw_226 : (Jvm.Cond.selects "CommitLogModel" y_Model_revert y_Model_revert) ∈ TW := tw (k := 226) rfl rfl
theorem tw_227 : k_Model_revert ∈ TW := tw (k := 227) rfl rfl
theorem tw_228 : (Jvm.Cond.methodLink "CommitLogModel" (66 : Nat) y_Model_fresh) ∈ TW := tw (k := 228) rfl rfl
theorem tw_230 : (Jvm.Cond.instanceMethod y_Model_fresh) ∈ TW := tw (k := 230) rfl rfl
theorem tw_231 : k_Model_fresh ∈ TW := tw (k := 231) rfl rfl
theorem tw_232 : (Jvm.Cond.methodLink "CommitLogLaw" (45 : Nat) y_Model_cut) ∈ TW := tw (k := 232) rfl rfl
theorem tw_233 : (Jvm.Cond.instanceMethod y_Model_cut) ∈ TW := tw (k := 233) rfl rfl
theorem tw_234 : (Jvm.Cond.selects "CommitLogModel" y_Model_cut y_Model_cut) ∈ TW := tw (k := 234) rfl rfl
theorem tw_235 : k_Model_cut ∈ TW := tw (k := 235) rfl rfl
theorem tw_236 : (Jvm.Cond.methodLink "CommitLogLaw" (49 : Nat) y_Model_start) ∈ TW := tw (k := 236) rfl rfl
theorem tw_237 : (Jvm.Cond.instanceMethod y_Model_start) ∈ TW := tw (k := 237) rfl rfl
theorem tw_238 : (Jvm.Cond.selects "CommitLogModel" y_Model_start y_Model_start) ∈ TW := tw (k := 238) rfl rfl
theorem tw_239 : k_Model_start ∈ TW := tw (k := 239) rfl rfl
theorem tw_240 : (Jvm.Cond.methodLink "CommitLogModel" (69 : Nat) y_Model_loggedMany) ∈ TW := tw (k := 240) rfl rfl
theorem tw_242 : (Jvm.Cond.instanceMethod y_Model_loggedMany) ∈ TW := tw (k := 242) rfl rfl
theorem tw_243 : k_Model_loggedMany ∈ TW := tw (k := 243) rfl rfl
theorem tw_244 : (Jvm.Cond.methodLink "CommitLogLaw" (54 : Nat) y_Model_state) ∈ TW := tw (k := 244) rfl rfl
theorem tw_245 : (Jvm.Cond.instanceMethod y_Model_state) ∈ TW := tw (k := 245) rfl rfl
theorem tw_246 : (Jvm.Cond.selects "CommitLogModel" y_Model_state y_Model_state) ∈ TW := tw (k := 246) rfl rfl
theorem tw_247 : k_Model_state ∈ TW := tw (k := 247) rfl rfl
theorem tw_0 : Cond.selects R_Disk y_Disk_fills y_Disk_fills ∈ TW := tw (k := 0) rfl rfl
theorem tw_1 : Cond.selects R_Disk y_Disk_off y_Disk_off ∈ TW := tw (k := 1) rfl rfl
theorem tw_2 : Cond.selects R_Disk y_Disk_homes y_Disk_homes ∈ TW := tw (k := 2) rfl rfl
theorem tw_3 : Cond.selects R_Model y_Model_many y_Model_many ∈ TW := tw (k := 3) rfl rfl
theorem tw_4 : Cond.selects R_Model y_Model_note y_Model_note ∈ TW := tw (k := 4) rfl rfl
theorem tw_5 : Cond.selects R_Model y_Model_lay y_Model_lay ∈ TW := tw (k := 5) rfl rfl
theorem tw_6 : Cond.selects R_Model y_Model_fresh y_Model_fresh ∈ TW := tw (k := 6) rfl rfl
theorem tw_7 : Cond.selects R_Model y_Model_loggedMany y_Model_loggedMany ∈ TW := tw (k := 7) rfl rfl
theorem i_Log : ∀ w ∈ w_Log, w ∈ TW := List.forall_mem_cons.mpr ⟨tw_70, fun _ h => absurd h List.not_mem_nil⟩
theorem i_Disk : ∀ w ∈ w_Disk, w ∈ TW := List.forall_mem_cons.mpr ⟨tw_45, List.forall_mem_cons.mpr ⟨tw_47, List.forall_mem_cons.mpr ⟨tw_49, List.forall_mem_cons.mpr ⟨tw_51, List.forall_mem_cons.mpr ⟨tw_53, List.forall_mem_cons.mpr ⟨tw_55, List.forall_mem_cons.mpr ⟨tw_57, List.forall_mem_cons.mpr ⟨tw_59, List.forall_mem_cons.mpr ⟨tw_61, List.forall_mem_cons.mpr ⟨tw_63, fun _ h => absurd h List.not_mem_nil⟩⟩⟩⟩⟩⟩⟩⟩⟩⟩
theorem i_Model : ∀ w ∈ w_Model, w ∈ TW := List.forall_mem_cons.mpr ⟨tw_162, List.forall_mem_cons.mpr ⟨tw_164, List.forall_mem_cons.mpr ⟨tw_166, List.forall_mem_cons.mpr ⟨tw_168, List.forall_mem_cons.mpr ⟨tw_170, List.forall_mem_cons.mpr ⟨tw_172, List.forall_mem_cons.mpr ⟨tw_174, List.forall_mem_cons.mpr ⟨tw_176, List.forall_mem_cons.mpr ⟨tw_178, List.forall_mem_cons.mpr ⟨tw_180, fun _ h => absurd h List.not_mem_nil⟩⟩⟩⟩⟩⟩⟩⟩⟩⟩
/-- the classes whose objects the worlds hold -/
abbrev classes : List vw_C := [(R_Log, F_Log, 1), (R_Disk, F_Disk, 10), (R_Model, F_Model, 10)]
/-- the words of a nest mate's private members: they are kept another way than TW -/
def NW (U : State) : Prop := va_Nw (Jvm.Cond.methodLinkNest "CommitLog" (9 : Nat) y_Disk_init "CommitLog") U ∧ va_Nw (Jvm.Cond.fieldLinkNest "CommitLog" (24 : Nat) "CommitLog$Disk" "work" "[B" "CommitLog") U ∧ va_Nw (Jvm.Cond.fieldLinkNest "CommitLog" (32 : Nat) "CommitLog$Disk" "home" "[B" "CommitLog") U ∧ va_Nw (Jvm.Cond.fieldLinkNest "CommitLog" (35 : Nat) "CommitLog$Disk" "dirty" "[Z" "CommitLog") U ∧ va_Nw (Jvm.Cond.fieldLinkNest "CommitLog" (60 : Nat) "CommitLog$Disk" "count" "I" "CommitLog") U ∧ va_Nw (Jvm.Cond.fieldLinkNest "CommitLog" (57 : Nat) "CommitLog$Disk" "marked" "Z" "CommitLog") U ∧ va_Nw (Jvm.Cond.fieldLinkNest "CommitLog" (16 : Nat) "CommitLog$Disk" "on" "Z" "CommitLog") U ∧ va_Nw (Jvm.Cond.fieldLinkNest "CommitLog" (46 : Nat) "CommitLog$Disk" "until" "I" "CommitLog") U ∧ va_Nw (Jvm.Cond.fieldLinkNest "CommitLog" (50 : Nat) "CommitLog$Disk" "share" "I" "CommitLog") U
theorem NW.of {args : Array Value} {s : State} (h : ∀ w ∈ lw_tbl, w.before args s = true) : NW s := ⟨va_Nw.of rfl (h _ (twl (k := 23) rfl)), va_Nw.of rfl (h _ (twl (k := 28) rfl)), va_Nw.of rfl (h _ (twl (k := 30) rfl)), va_Nw.of rfl (h _ (twl (k := 33) rfl)), va_Nw.of rfl (h _ (twl (k := 36) rfl)), va_Nw.of rfl (h _ (twl (k := 38) rfl)), va_Nw.of rfl (h _ (twl (k := 40) rfl)), va_Nw.of rfl (h _ (twl (k := 42) rfl)), va_Nw.of rfl (h _ (twl (k := 44) rfl))⟩
theorem NW.warm {s U : State} (hW : s.WarmedH U.vm) (h : NW s) : NW U := ⟨va_Nw.warmM hW h.1, va_Nw.warmF hW h.2.1, va_Nw.warmF hW h.2.2.1, va_Nw.warmF hW h.2.2.2.1, va_Nw.warmF hW h.2.2.2.2.1, va_Nw.warmF hW h.2.2.2.2.2.1, va_Nw.warmF hW h.2.2.2.2.2.2.1, va_Nw.warmF hW h.2.2.2.2.2.2.2.1, va_Nw.warmF hW h.2.2.2.2.2.2.2.2⟩
theorem NW.same {u U : State} (hv : u.vm = U.vm) (h : NW u) : NW U := ⟨va_tabs rfl hv h.1, va_tabs rfl hv h.2.1, va_tabs rfl hv h.2.2.1, va_tabs rfl hv h.2.2.2.1, va_tabs rfl hv h.2.2.2.2.1, va_tabs rfl hv h.2.2.2.2.2.1, va_tabs rfl hv h.2.2.2.2.2.2.1, va_tabs rfl hv h.2.2.2.2.2.2.2.1, va_tabs rfl hv h.2.2.2.2.2.2.2.2⟩
theorem NW.w9 {s : State} {args : Array Value} (h : NW s) : (Jvm.Cond.methodLinkNest "CommitLog" (9 : Nat) y_Disk_init "CommitLog").before args s = true := va_Nw.use rfl h.1
theorem NW.w24 {s : State} {args : Array Value} (h : NW s) : (Jvm.Cond.fieldLinkNest "CommitLog" (24 : Nat) "CommitLog$Disk" "work" "[B" "CommitLog").before args s = true := va_Nw.use rfl h.2.1
theorem NW.w32 {s : State} {args : Array Value} (h : NW s) : (Jvm.Cond.fieldLinkNest "CommitLog" (32 : Nat) "CommitLog$Disk" "home" "[B" "CommitLog").before args s = true := va_Nw.use rfl h.2.2.1
theorem NW.w35 {s : State} {args : Array Value} (h : NW s) : (Jvm.Cond.fieldLinkNest "CommitLog" (35 : Nat) "CommitLog$Disk" "dirty" "[Z" "CommitLog").before args s = true := va_Nw.use rfl h.2.2.2.1
theorem NW.w60 {s : State} {args : Array Value} (h : NW s) : (Jvm.Cond.fieldLinkNest "CommitLog" (60 : Nat) "CommitLog$Disk" "count" "I" "CommitLog").before args s = true := va_Nw.use rfl h.2.2.2.2.1
theorem NW.w57 {s : State} {args : Array Value} (h : NW s) : (Jvm.Cond.fieldLinkNest "CommitLog" (57 : Nat) "CommitLog$Disk" "marked" "Z" "CommitLog").before args s = true := va_Nw.use rfl h.2.2.2.2.2.1
theorem NW.w16 {s : State} {args : Array Value} (h : NW s) : (Jvm.Cond.fieldLinkNest "CommitLog" (16 : Nat) "CommitLog$Disk" "on" "Z" "CommitLog").before args s = true := va_Nw.use rfl h.2.2.2.2.2.2.1
theorem NW.w46 {s : State} {args : Array Value} (h : NW s) : (Jvm.Cond.fieldLinkNest "CommitLog" (46 : Nat) "CommitLog$Disk" "until" "I" "CommitLog").before args s = true := va_Nw.use rfl h.2.2.2.2.2.2.2.1
theorem NW.w50 {s : State} {args : Array Value} (h : NW s) : (Jvm.Cond.fieldLinkNest "CommitLog" (50 : Nat) "CommitLog$Disk" "share" "I" "CommitLog").before args s = true := va_Nw.use rfl h.2.2.2.2.2.2.2.2
end
section
/-! MY ROWS: contents of arrays as functions of a pure type, Nats and Bools on the stack; contracts from world to world; calls; loops -/
def bI : Bool → Int32
  | true => 1
  | false => 0
def eB (f : Nat → Int8) : Nat → Int32 := fun j => (f j).toInt32
def eZ (f : Nat → Bool) : Nat → Int32 := fun j => bI (f j)
def eN (f : Nat → Nat) : Nat → Int32 := fun j => nI (f j)
theorem bI_nar (b : Bool) : narrow .boolean (.int (bI b)) = .int (bI b) := by cases b <;> rfl
theorem bI_fit (b : Bool) : fits .boolean (.int (bI b)) = true := by cases b <;> rfl
theorem bI_vp (b : Bool) : vp_nar .boolean (bI b) = bI b := by cases b <;> rfl
theorem bI_eq0 {b : Bool} : bI b = 0 ↔ b = false := by cases b <;> decide
theorem bI_inj {a b : Bool} : bI a = bI b ↔ a = b := by cases a <;> cases b <;> decide
theorem eB_up (f : Nat → Int8) (i : Nat) (v : Int8) : upd (eB f) i (vp_nar .byte v.toInt32) = eB (va_up f i v) := by
  funext j
  by_cases h : j = i
  · subst h
    rw [pk_us]; simp [eB, va_up, vp_nar_byte]
  · rw [pk_un h]; simp [eB, va_up, h]
theorem eZ_up (f : Nat → Bool) (i : Nat) (v : Bool) : upd (eZ f) i (vp_nar .boolean (bI v)) = eZ (va_up f i v) := by
  funext j
  by_cases h : j = i
  · subst h
    rw [pk_us]; simp [eZ, va_up, bI_vp]
  · rw [pk_un h]; simp [eZ, va_up, h]
theorem eN_up (f : Nat → Nat) (i : Nat) (v : Nat) : upd (eN f) i (nI v) = eN (va_up f i v) := by
  funext j
  by_cases h : j = i
  · subst h
    rw [pk_us]; simp [eN, va_up]
  · rw [pk_un h]; simp [eN, va_up, h]
theorem eB_cpy (f g : Nat → Int8) (sp dp n : Nat) : va_cpy (eB f) (eB g) sp dp n = eB (va_cpy f g sp dp n) := by
  funext j
  unfold eB va_cpy
  by_cases h : dp ≤ j ∧ j < dp + n
  · simp [h]
  · simp only [h]; rfl
theorem fit_i8 (v : Int8) : fits .byte (.int v.toInt32) = true := by
  have h := pk_fb v.toInt32
  rwa [Int8.toInt8_toInt32] at h
section MY
variable {p : Program} {l : Launch} {e : Env} {R : Room} {s : State} {m : MethodId} {args : Array Value} {below : List Frame} {meth : Method} {c : Code} {H : Heap} {locs : List Loc} {cells slots : Nat} {Q : State → Prop}
variable {cc : ByteArray} {pc : Nat} {ls : Array Slot} {rest : List Value} {D : va_G} {cl : List vw_C} {tys : List (ClassId × FieldType)} {ws : va_W} {A : Nat → Prop} {H0 : Heap} {a : Nat}
theorem lv_as {x y : Int32} (h : x = y) (k : W p l e R s m args below meth c H locs cells slots Q (F0 m pc ls (.int y :: rest))) : W p l e R s m args below meth c H locs cells slots Q (F0 m pc ls (.int x :: rest)) := by
  rw [h]; exact k
theorem my_iadd (hx : p.tables.exec = Jvm.exec) (hb : c.code = cc) {x y : Nat} (hdg : decode cc pc = .ok (.iadd, 1)) (k : W p l e R s m args below meth c H locs cells slots Q (F0 m (pc + 1) ls (.int (nI (x + y)) :: rest))) : W p l e R s m args below meth c H locs cells slots Q (F0 m pc ls (.int (nI y) :: .int (nI x) :: rest)) := by
  refine lv_iadd hx hb hdg ?_
  rw [nI_add]; exact k
theorem my_imul (hx : p.tables.exec = Jvm.exec) (hb : c.code = cc) {x y : Nat} (hdg : decode cc pc = .ok (.imul, 1)) (k : W p l e R s m args below meth c H locs cells slots Q (F0 m (pc + 1) ls (.int (nI (x * y)) :: rest))) : W p l e R s m args below meth c H locs cells slots Q (F0 m pc ls (.int (nI y) :: .int (nI x) :: rest)) := by
  refine lv_imul hx hb hdg ?_
  rw [pk_mul]; exact k
theorem my_isub (hx : p.tables.exec = Jvm.exec) (hb : c.code = cc) {x y : Nat} (h : y ≤ x) (hdg : decode cc pc = .ok (.isub, 1)) (k : W p l e R s m args below meth c H locs cells slots Q (F0 m (pc + 1) ls (.int (nI (x - y)) :: rest))) : W p l e R s m args below meth c H locs cells slots Q (F0 m pc ls (.int (nI y) :: .int (nI x) :: rest)) := by
  refine lv_isub hx hb hdg ?_
  rw [pk_sub h]; exact k
theorem my_idiv (hx : p.tables.exec = Jvm.exec) (hb : c.code = cc) {x y : Nat} (h1 : x < 2 ^ 31) (h0 : 0 < y) (h2 : y < 2 ^ 31) (hdg : decode cc pc = .ok (.idiv, 1)) (k : W p l e R s m args below meth c H locs cells slots Q (F0 m (pc + 1) ls (.int (nI (x / y)) :: rest))) : W p l e R s m args below meth c H locs cells slots Q (F0 m pc ls (.int (nI y) :: .int (nI x) :: rest)) := by
  refine lv_idiv hx hb hdg (nI_ne0 h0 h2) ?_
  rw [pk_div h1 h0 h2]; exact k
theorem my_ifeq (hx : p.tables.exec = Jvm.exec) (hb : c.code = cc) {v : Bool} {off : Int} {tgt : Nat} (hdg : decode cc pc = .ok (.ifCond .eq off, 3)) (ht : (pc : Int) + off = (tgt : Int)) (kt : v = false → W p l e R s m args below meth c H locs cells slots Q (F0 m tgt ls rest)) (kf : v = true → W p l e R s m args below meth c H locs cells slots Q (F0 m (pc + 3) ls rest)) : W p l e R s m args below meth c H locs cells slots Q (F0 m pc ls (.int (bI v) :: rest)) :=
  lv_if_eq hx hb hdg ht (fun h => kt (bI_eq0.mp h)) (fun h => kf (by cases v with
    | true => rfl
    | false => exact absurd rfl h))
theorem my_ifne (hx : p.tables.exec = Jvm.exec) (hb : c.code = cc) {v : Bool} {off : Int} {tgt : Nat} (hdg : decode cc pc = .ok (.ifCond .ne off, 3)) (ht : (pc : Int) + off = (tgt : Int)) (kt : v = true → W p l e R s m args below meth c H locs cells slots Q (F0 m tgt ls rest)) (kf : v = false → W p l e R s m args below meth c H locs cells slots Q (F0 m (pc + 3) ls rest)) : W p l e R s m args below meth c H locs cells slots Q (F0 m pc ls (.int (bI v) :: rest)) :=
  lv_if_ne hx hb hdg ht (fun h => kt (by cases v with
    | true => rfl
    | false => exact absurd rfl h)) (fun h => kf (bI_eq0.mp h))
theorem my_icmpge (hx : p.tables.exec = Jvm.exec) (hb : c.code = cc) {x y : Nat} (h1 : x < 2 ^ 31) (h2 : y < 2 ^ 31) {off : Int} {tgt : Nat} (hdg : decode cc pc = .ok (.if_icmp .ge off, 3)) (ht : (pc : Int) + off = (tgt : Int)) (kt : y ≤ x → W p l e R s m args below meth c H locs cells slots Q (F0 m tgt ls rest)) (kf : x < y → W p l e R s m args below meth c H locs cells slots Q (F0 m (pc + 3) ls rest)) : W p l e R s m args below meth c H locs cells slots Q (F0 m pc ls (.int (nI y) :: .int (nI x) :: rest)) :=
  lv_icmp_ge hx hb hdg ht (fun h => kt ((nI_leI h2 h1).mp h)) (fun h => kf (Nat.lt_of_not_le (fun z => h ((nI_leI h2 h1).mpr z))))
theorem my_icmpne (hx : p.tables.exec = Jvm.exec) (hb : c.code = cc) {x y : Nat} (h1 : x < 2 ^ 31) (h2 : y < 2 ^ 31) {off : Int} {tgt : Nat} (hdg : decode cc pc = .ok (.if_icmp .ne off, 3)) (ht : (pc : Int) + off = (tgt : Int)) (kt : x ≠ y → W p l e R s m args below meth c H locs cells slots Q (F0 m tgt ls rest)) (kf : x = y → W p l e R s m args below meth c H locs cells slots Q (F0 m (pc + 3) ls rest)) : W p l e R s m args below meth c H locs cells slots Q (F0 m pc ls (.int (nI y) :: .int (nI x) :: rest)) :=
  lv_icmp_ne hx hb hdg ht (fun h => kt (fun z => h (by rw [z]))) (fun h => kf ((nI_eq h1 h2).mp h))
theorem my_bald (hx : p.tables.exec = Jvm.exec) (hb : c.code = cc) (hK : va_K D cl tys s) (hP : va_P D cl ws H) (q0 t0 : Nat) {cA : ClassId} {n : Nat} {f : Nat → Int8} (ha : ws[q0]? = some (a, .inl (cA, n, .inl (eB f)))) (ht : tys[t0]? = some (cA, .byte)) {i : Nat} (hin : i < n) (hn : n < 2 ^ 31) (hdg : decode cc pc = .ok (.baload, 1))
    (kk : W p l e R s m args below meth c H locs cells slots Q (F0 m (pc + 1) ls (.int (f i).toInt32 :: rest))) : W p l e R s m args below meth c H locs cells slots Q (F0 m pc ls (.int (nI i) :: .ref a :: rest)) := by
  refine va_bald hx hb hK hP q0 t0 ha ht (vp_in_nI hin hn) hdg ?_
  rw [nI_clamp (Nat.lt_trans hin hn)]
  exact kk
theorem my_zald (hx : p.tables.exec = Jvm.exec) (hb : c.code = cc) (hK : va_K D cl tys s) (hP : va_P D cl ws H) (q0 t0 : Nat) {cA : ClassId} {n : Nat} {f : Nat → Bool} (ha : ws[q0]? = some (a, .inl (cA, n, .inl (eZ f)))) (ht : tys[t0]? = some (cA, .boolean)) {i : Nat} (hin : i < n) (hn : n < 2 ^ 31) (hdg : decode cc pc = .ok (.baload, 1))
    (kk : W p l e R s m args below meth c H locs cells slots Q (F0 m (pc + 1) ls (.int (bI (f i)) :: rest))) : W p l e R s m args below meth c H locs cells slots Q (F0 m pc ls (.int (nI i) :: .ref a :: rest)) := by
  refine va_zald hx hb hK hP q0 t0 ha ht (vp_in_nI hin hn) hdg ?_
  rw [nI_clamp (Nat.lt_trans hin hn)]
  exact kk
theorem my_iald (hx : p.tables.exec = Jvm.exec) (hb : c.code = cc) (hK : va_K D cl tys s) (hP : va_P D cl ws H) (q0 t0 : Nat) {cA : ClassId} {n : Nat} {f : Nat → Nat} (ha : ws[q0]? = some (a, .inl (cA, n, .inl (eN f)))) (ht : tys[t0]? = some (cA, .int)) {i : Nat} (hin : i < n) (hn : n < 2 ^ 31) (hdg : decode cc pc = .ok (.iaload, 1))
    (kk : W p l e R s m args below meth c H locs cells slots Q (F0 m (pc + 1) ls (.int (nI (f i)) :: rest))) : W p l e R s m args below meth c H locs cells slots Q (F0 m pc ls (.int (nI i) :: .ref a :: rest)) := by
  refine va_iald hx hb hK hP q0 t0 ha ht (vp_in_nI hin hn) hdg ?_
  rw [nI_clamp (Nat.lt_trans hin hn)]
  exact kk
theorem my_bast (hx : p.tables.exec = Jvm.exec) (hb : c.code = cc) (hK : va_K D cl tys s) (hP : va_P D cl ws H) (hD : va_D A ws) (hS : va_S A H0 H locs) (q0 t0 : Nat) {cA : ClassId} {n : Nat} {f : Nat → Int8} (ha : ws[q0]? = some (a, .inl (cA, n, .inl (eB f)))) (ht : tys[t0]? = some (cA, .byte)) {i : Nat} {v : Int8} (hin : i < n) (hn : n < 2 ^ 31) (hdg : decode cc pc = .ok (.bastore, 1))
    (kk : ∀ (H1 : Heap) (locs1 : List Loc), va_P D cl (ws.set q0 (a, .inl (cA, n, .inl (eB (va_up f i v))))) H1 → va_D A (ws.set q0 (a, .inl (cA, n, .inl (eB (va_up f i v))))) → va_S A H0 H1 locs1 → W p l e R s m args below meth c H1 locs1 cells slots Q (F0 m (pc + 1) ls rest)) : W p l e R s m args below meth c H locs cells slots Q (F0 m pc ls (.int v.toInt32 :: .int (nI i) :: .ref a :: rest)) := by
  refine va_bast hx hb hK hP hD hS q0 t0 ha ht (vp_in_nI hin hn) hdg ?_
  rw [nI_clamp (Nat.lt_trans hin hn), eB_up]
  exact kk
theorem my_zast (hx : p.tables.exec = Jvm.exec) (hb : c.code = cc) (hK : va_K D cl tys s) (hP : va_P D cl ws H) (hD : va_D A ws) (hS : va_S A H0 H locs) (q0 t0 : Nat) {cA : ClassId} {n : Nat} {f : Nat → Bool} (ha : ws[q0]? = some (a, .inl (cA, n, .inl (eZ f)))) (ht : tys[t0]? = some (cA, .boolean)) {i : Nat} {v : Bool} (hin : i < n) (hn : n < 2 ^ 31) (hdg : decode cc pc = .ok (.bastore, 1))
    (kk : ∀ (H1 : Heap) (locs1 : List Loc), va_P D cl (ws.set q0 (a, .inl (cA, n, .inl (eZ (va_up f i v))))) H1 → va_D A (ws.set q0 (a, .inl (cA, n, .inl (eZ (va_up f i v))))) → va_S A H0 H1 locs1 → W p l e R s m args below meth c H1 locs1 cells slots Q (F0 m (pc + 1) ls rest)) : W p l e R s m args below meth c H locs cells slots Q (F0 m pc ls (.int (bI v) :: .int (nI i) :: .ref a :: rest)) := by
  refine va_zast hx hb hK hP hD hS q0 t0 ha ht (vp_in_nI hin hn) hdg ?_
  rw [nI_clamp (Nat.lt_trans hin hn), eZ_up]
  exact kk
theorem my_iast (hx : p.tables.exec = Jvm.exec) (hb : c.code = cc) (hK : va_K D cl tys s) (hP : va_P D cl ws H) (hD : va_D A ws) (hS : va_S A H0 H locs) (q0 t0 : Nat) {cA : ClassId} {n : Nat} {f : Nat → Nat} (ha : ws[q0]? = some (a, .inl (cA, n, .inl (eN f)))) (ht : tys[t0]? = some (cA, .int)) {i : Nat} {v : Nat} (hin : i < n) (hn : n < 2 ^ 31) (hdg : decode cc pc = .ok (.iastore, 1))
    (kk : ∀ (H1 : Heap) (locs1 : List Loc), va_P D cl (ws.set q0 (a, .inl (cA, n, .inl (eN (va_up f i v))))) H1 → va_D A (ws.set q0 (a, .inl (cA, n, .inl (eN (va_up f i v))))) → va_S A H0 H1 locs1 → W p l e R s m args below meth c H1 locs1 cells slots Q (F0 m (pc + 1) ls rest)) : W p l e R s m args below meth c H locs cells slots Q (F0 m pc ls (.int (nI v) :: .int (nI i) :: .ref a :: rest)) := by
  refine va_iast hx hb hK hP hD hS q0 t0 ha ht (vp_in_nI hin hn) hdg ?_
  rw [nI_clamp (Nat.lt_trans hin hn), eN_up]
  exact kk
theorem my_copy (hx : p.tables.exec = Jvm.exec) (hb : c.code = cc) (hml : c.maxLocals = ls.size) {own : String} {index : Nat} (hown : s.vm.findClass own = some m.cls) (hlink : (Cond.methodLink own index arraycopyName).before args s = true) (hnat : (Cond.native arraycopyName).before args s = true) (hstat : (Cond.static arraycopyName).before args s = true) (hini : (Cond.initialized "java/lang/System").before args s = true)
    (hK : va_K D cl tys s) (hP : va_P D cl ws H) (hD : va_D A ws) (hS : va_S A H0 H locs) (q0 q1 t0 t1 : Nat) {a0 : Nat} {c0 c1 : ClassId} {n0 n1 : Nat} {f g : Nat → Int8} (ha0 : ws[q0]? = some (a0, .inl (c0, n0, .inl (eB f)))) (ha1 : ws[q1]? = some (a, .inl (c1, n1, .inl (eB g)))) (ht0 : tys[t0]? = some (c0, .byte)) (ht1 : tys[t1]? = some (c1, .byte))
    {sp dp n : Nat} (h0 : n0 < 2 ^ 31) (h1 : n1 < 2 ^ 31) (h4 : sp + n ≤ n0) (h5 : dp + n ≤ n1)
    (hframes : 1 ≤ R.frames) (hlocals : (rest.map fun v => v.category).sum + (nativeFrameWords "java/lang/System" "arraycopy" 5 + 11) ≤ R.locals) (hdg : decode cc pc = .ok (.invokestatic index, 3))
    (kk : ∀ (H1 : Heap) (locs1 : List Loc), va_P D cl (ws.set q1 (a, .inl (c1, n1, .inl (eB (va_cpy f g sp dp n))))) H1 → va_D A (ws.set q1 (a, .inl (c1, n1, .inl (eB (va_cpy f g sp dp n))))) → va_S A H0 H1 locs1 → W p l e R s m args below meth c H1 locs1 cells slots Q (F0 m (pc + 3) ls rest)) : W p l e R s m args below meth c H locs cells slots Q (F0 m pc ls (.int (nI n) :: .int (nI dp) :: .ref a :: .int (nI sp) :: .ref a0 :: rest)) := by
  have e1 : (nI sp).toNatClampNeg = sp := nI_clamp (by omega)
  have e2 : (nI dp).toNatClampNeg = dp := nI_clamp (by omega)
  have e3 : (nI n).toNatClampNeg = n := nI_clamp (by omega)
  refine va_copyi hx hb hml hown hlink hnat hstat hini hK hP hD hS q0 q1 t0 t1 ha0 ha1 ht0 ht1 rfl (nI_pos (by omega)) (nI_pos (by omega)) (nI_pos (by omega)) (by rw [e1, e3]; exact h4) (by rw [e2, e3]; exact h5) (fun i _ => fit_i8 _) hframes hlocals hdg ?_
  rw [e1, e2, e3, eB_cpy]
  exact kk
end MY
/-! contracts from world to world -/
def PW (D : va_G) (tys : List (ClassId × FieldType)) (sz : Nat) (ws : va_W) (U : State) : Prop := U.heap.size = sz ∧ va_P D classes ws U.heap ∧ va_K D classes tys U ∧ va_D (fun _ => True) ws ∧ NW U
def QW (D : va_G) (tys : List (ClassId × FieldType)) (A : Nat → Prop) (ws : va_W) (t : State) : Prop := va_P D classes ws t.heap ∧ va_K D classes tys t ∧ va_D A ws
def Qi (D : va_G) (tys : List (ClassId × FieldType)) (A : Nat → Prop) (r : Int32) (ws : va_W) : Array Value → State → Outcome → State → Prop := va_Qi (fun x (_ : Unit) => x = r) (fun _ t => QW D tys A ws t) A
def Qv (D : va_G) (tys : List (ClassId × FieldType)) (A : Nat → Prop) (ws : va_W) : Array Value → State → Outcome → State → Prop := va_Qv (fun (_ : Unit) => True) (fun _ t => QW D tys A ws t) A
/-- a method that answers r, its world ws becomes ws' -/
def Ci (l : Launch) (D : va_G) (tys : List (ClassId × FieldType)) (y : MethodName) (cw : Cond) (rm : Room) (av : List Value) (ws : va_W) (r : Int32) (ws' : va_W) : Prop :=
  ∀ sz : Nat, Met l y (cw :: TW) rm (va_Pc av (PW D tys sz ws)) (Qi D tys (va_A ws sz) r ws') 0 0 (va_A ws sz)
def Cv (l : Launch) (D : va_G) (tys : List (ClassId × FieldType)) (y : MethodName) (cw : Cond) (rm : Room) (av : List Value) (ws ws' : va_W) : Prop :=
  ∀ sz : Nat, Met l y (cw :: TW) rm (va_Pc av (PW D tys sz ws)) (Qv D tys (va_A ws sz) ws') 0 0 (va_A ws sz)
/-- what a contract's body is given -/
def Bd (l : Launch) (D : va_G) (tys : List (ClassId × FieldType)) (y : MethodName) (cc : ByteArray) (maxL : Nat) (ret : Option FieldType) (rm : Room) (av : List Value) (ws : va_W) (Qc : (Nat → Prop) → Array Value → State → Outcome → State → Prop) : Prop :=
  ∀ (p : Program) (e : Env) (s : State) (m : MethodId) (below : List Frame) (meth : Method) (c : Code) (A : Nat → Prop), p.tables.exec = Jvm.exec → c.code = cc → c.maxLocals = maxL → meth.sig.returnType = ret → meth.locks = false → (∀ w ∈ TW, w.before av.toArray s = true) → s.vm.findClass y.cls = some m.cls → meth.name = y.name →
    (∀ q : Nat, s.heap.size ≤ q → A q) → va_S A s.heap s.heap [] → va_P D classes ws s.heap → va_K D classes tys s → va_D A ws → NW s → ∀ ls : Array Slot, lv_has ls maxL (lv_args 0 av) → W p l e rm s m av.toArray below meth c s.heap [] 0 0 (MQ below (Qc A) av.toArray s 0 0 A) (F0 m 0 ls [])
theorem open_Met {l : Launch} {D : va_G} {tys : List (ClassId × FieldType)} {y : MethodName} {cc : ByteArray} {maxL : Nat} {ret : Option FieldType} {rm : Room} {av : List Value} {ws : va_W} {Qc : (Nat → Prop) → Array Value → State → Outcome → State → Prop} (hy : plainName y.cls = true) (hn : (lg_sl av).length ≤ maxL) (h : Bd l D tys y cc maxL ret rm av ws Qc) (sz : Nat) :
    Met l y (.code y cc maxL ret :: TW) rm (va_Pc av (PW D tys sz ws)) (Qc (va_A ws sz)) 0 0 (va_A ws sz) := by
  refine Met.ofW (cc := cc) (maxL := maxL) (ret := ret) hy rfl ?_
  intro p e s m args below meth c s₁ B hml hv
  obtain ⟨rfl, hsz, hP, hK, hD0, hN⟩ := hv
  have hts := atoms_spec (ws := .code y cc maxL ret :: TW) B.pre
  subst hsz
  have hl := lv_entry av (n := maxL) hn
  rw [lg_entry_eq]
  exact h p e s m below meth c (va_A ws s.heap.size) B.exec B.bytes hml B.returns B.notSynchronized (fun w hw => hts w (List.mem_cons_of_mem _ hw)) (findClass_of_methodNamed B.named) (name_of_methodNamed B.named B.method).1 (fun q hq => Or.inr hq) va_S.rf hP hK hD0.self hN _ hl
theorem open_i {l : Launch} {D : va_G} {tys : List (ClassId × FieldType)} {y : MethodName} {cc : ByteArray} {maxL : Nat} {ret : Option FieldType} {rm : Room} {av : List Value} {ws ws' : va_W} {r : Int32} (hy : plainName y.cls = true) (hn : (lg_sl av).length ≤ maxL) (h : Bd l D tys y cc maxL ret rm av ws (fun A => Qi D tys A r ws')) : Ci l D tys y (.code y cc maxL ret) rm av ws r ws' := fun sz => open_Met hy hn h sz
theorem open_v {l : Launch} {D : va_G} {tys : List (ClassId × FieldType)} {y : MethodName} {cc : ByteArray} {maxL : Nat} {ret : Option FieldType} {rm : Room} {av : List Value} {ws ws' : va_W} (hy : plainName y.cls = true) (hn : (lg_sl av).length ≤ maxL) (h : Bd l D tys y cc maxL ret rm av ws (fun A => Qv D tys A ws')) : Cv l D tys y (.code y cc maxL ret) rm av ws ws' := fun sz => open_Met hy hn h sz
section RET
variable {p : Program} {l : Launch} {e : Env} {R : Room} {s : State} {m : MethodId} {args : Array Value} {below : List Frame} {meth : Method} {c : Code} {H : Heap} {locs : List Loc}
variable {cc : ByteArray} {pc : Nat} {ls : Array Slot} {D : va_G} {tys : List (ClassId × FieldType)} {ws : va_W} {A : Nat → Prop}
theorem ret_i (hx : p.tables.exec = Jvm.exec) (hb : c.code = cc) (hr : meth.sig.returnType = some .int) (hlocks : meth.locks = false) (hK : va_K D classes tys s) (hP : va_P D classes ws H) (hD : va_D A ws) (hS : va_S A s.heap H locs) {v r : Int32} (hv : v = r) (hdg : decode cc pc = .ok (.ireturn, 1)) : W p l e R s m args below meth c H locs 0 0 (MQ below (Qi D tys A r ws) args s 0 0 A) (F0 m pc ls [.int v]) := by
  subst hv
  exact W.iret hx hb hr (fun t ht hW => ⟨⟨v, (), rfl, rfl, by rw [ht]; exact hP, va_K.moved hW.alike hK, hD⟩, hS.F ht⟩) hS.2.2 hdg
theorem ret_z (hx : p.tables.exec = Jvm.exec) (hb : c.code = cc) (hr : meth.sig.returnType = some .boolean) (hlocks : meth.locks = false) (hK : va_K D classes tys s) (hP : va_P D classes ws H) (hD : va_D A ws) (hS : va_S A s.heap H locs) {v : Bool} {r : Int32} (hv : bI v = r) (hdg : decode cc pc = .ok (.ireturn, 1)) : W p l e R s m args below meth c H locs 0 0 (MQ below (Qi D tys A r ws) args s 0 0 A) (F0 m pc ls [.int (bI v)]) := by
  subst hv
  exact W.zret hx hb hr (bI_nar v) (fun t ht hW => ⟨⟨bI v, (), rfl, rfl, by rw [ht]; exact hP, va_K.moved hW.alike hK, hD⟩, hS.F ht⟩) hS.2.2 hdg
theorem ret_v (hx : p.tables.exec = Jvm.exec) (hb : c.code = cc) (hr : meth.sig.returnType = none) (hlocks : meth.locks = false) (hK : va_K D classes tys s) (hP : va_P D classes ws H) (hD : va_D A ws) (hS : va_S A s.heap H locs) (hdg : decode cc pc = .ok (.return_, 1)) : W p l e R s m args below meth c H locs 0 0 (MQ below (Qv D tys A ws) args s 0 0 A) (F0 m pc ls []) :=
  W.vret hx hb hr (fun t ht hW => ⟨⟨(), rfl, trivial, by rw [ht]; exact hP, va_K.moved hW.alike hK, hD⟩, hS.F ht⟩) hS.2.2 hdg
end RET
end
section
/-! CALLS over contracts from world to world; loops -/
theorem fm_of {α : Type} {is : List Nat} {f : Nat → Option α} {w : List α} (h : is.map f = w.map some) : is.filterMap f = w := by
  induction is generalizing w with
  | nil =>
    cases w with
    | nil => rfl
    | cons a t => simp at h
  | cons i is ih =>
    cases w with
    | nil => simp at h
    | cons a t =>
      simp only [List.map_cons, List.cons.injEq] at h
      rw [List.filterMap_cons, h.1, ih h.2]
theorem in_V {own C : String} {index : Nat} {y : MethodName} {cw : Cond} (h1 : .methodLink own index y ∈ TW) (h2 : .instanceMethod y ∈ TW) (h3 : .selects C y y ∈ TW) (h4 : .initialized C ∈ TW) (h5 : cw ∈ TW) : ∀ w ∈ wsV own index C y (cw :: TW), w ∈ TW := by
  intro w hw
  unfold wsV at hw
  simp only [List.cons_append, List.nil_append, List.mem_cons] at hw
  rcases hw with rfl | rfl | rfl | rfl | rfl | h
  · exact h1
  · exact h2
  · exact h3
  · exact h4
  · exact h5
  · exact h
theorem in_S {own : String} {index : Nat} {y : MethodName} {cw : Cond} (h1 : .methodLink own index y ∈ TW) (h2 : .static y ∈ TW) (h4 : .initialized own ∈ TW) (h5 : cw ∈ TW) : ∀ w ∈ wsS own index y (cw :: TW), w ∈ TW := by
  intro w hw
  unfold wsS at hw
  simp only [List.cons_append, List.nil_append, List.mem_cons] at hw
  rcases hw with rfl | rfl | rfl | rfl | h
  · exact h1
  · exact h2
  · exact h4
  · exact h5
  · exact h
theorem PW_blind {D : va_G} {tys : List (ClassId × FieldType)} {sz : Nat} {ws : va_W} {av : List Value} : FrameBlind (va_Pc av (PW D tys sz ws)) := fun a U g mk q => by
  obtain ⟨q0, q1, qP, qK, qD, qN⟩ := q
  exact ⟨q0, q1, qP, va_K.moved (u := U) (U := U.calling g mk a) (Vm.Alike.refl U.vm) qK, qD, NW.same (u := U) (U := U.calling g mk a) rfl qN⟩
section CALLS
variable {p : Program} {l : Launch} {e : Env} {R : Room} {s : State} {m : MethodId} {args : Array Value} {below : List Frame} {meth : Method} {c : Code} {H : Heap} {locs : List Loc} {cells slots : Nat} {Q : State → Prop}
variable {cc : ByteArray} {pc : Nat} {ls : Array Slot} {rest : List Value} {D : va_G} {tys : List (ClassId × FieldType)} {ws : va_W} {A : Nat → Prop} {st0 : List Value} {wc wc' ws' : va_W} {r : Int32} {a' : Array Value}
theorem PW_here {sz : Nat} (hK : va_K D classes tys s) (hN : NW s) (hP : va_P D classes ws H) (hD : va_D A ws) (isC : List Nat) (hC : isC.map (fun i => ws[i]?) = wc.map some) (hnC : va_nd isC = true) (hz : H.size = sz) {U : State} (hU : U.heap = H) (hW : s.WarmedH U.vm) : PW D tys sz wc U :=
  ⟨by rw [hU]; exact hz, by rw [hU]; exact hP.sub isC (fm_of hC), va_K.moved hW.alike hK, (hD.sub isC hnC hC).weaken (fun _ _ _ _ => trivial), NW.warm hW hN⟩
theorem go_i (hr : va_Run p l e R s m args below meth c H locs cells slots 0 0 (F0 m pc ls st0) rest (Qi D tys (va_A wc H.size) r wc' a') (va_A wc H.size)) (hP : va_P D classes ws H) (hD : va_D A ws) (hS : va_S A s.heap H locs) (hA : ∀ q, s.heap.size ≤ q → A q)
    (isC isR isB : List Nat) (hC : isC.map (fun i => ws[i]?) = wc.map some) (wr : va_W) (hR : isR.map (fun i => ws[i]?) = wr.map some) (hnR : va_nd isR = true) (hdis : ∀ i ∈ isR, i ∉ isC) (hB : isB.map (fun i => (wr ++ wc')[i]?) = ws'.map some) (hnB : va_nd isB = true)
    (kk : ∀ (H1 : Heap) (locs1 : List Loc), va_P D classes ws' H1 → va_D A ws' → va_S A s.heap H1 locs1 → W p l e R s m args below meth c H1 locs1 cells slots Q (F0 m (pc + 3) ls (.int r :: rest))) : W p l e R s m args below meth c H locs cells slots Q (F0 m pc ls st0) := by
  have hFc := va_free (wc := wc) hD hS hA isC hC
  unfold Qi at hr
  refine va_calli hr hS (fun q _ h => hFc q h) hFc (fun r1 u t H1 locs1 ht hvm hw hB1 hz1 hk1 hS1 => ?_)
  obtain ⟨hP1, hK1, hD1⟩ := hB1
  subst hw
  rw [ht] at hP1
  obtain ⟨hP2, hD2⟩ := va_join (wr := wr) (w1 := wc') hP hD isC isR hC hR hnR hdis hk1 hFc hP1 hD1
  exact kk H1 locs1 (hP2.sub isB (fm_of hB)) (hD2.sub isB hnB hB) hS1
theorem go_v (hr : va_Run p l e R s m args below meth c H locs cells slots 0 0 (F0 m pc ls st0) rest (Qv D tys (va_A wc H.size) wc' a') (va_A wc H.size)) (hP : va_P D classes ws H) (hD : va_D A ws) (hS : va_S A s.heap H locs) (hA : ∀ q, s.heap.size ≤ q → A q)
    (isC isR isB : List Nat) (hC : isC.map (fun i => ws[i]?) = wc.map some) (wr : va_W) (hR : isR.map (fun i => ws[i]?) = wr.map some) (hnR : va_nd isR = true) (hdis : ∀ i ∈ isR, i ∉ isC) (hB : isB.map (fun i => (wr ++ wc')[i]?) = ws'.map some) (hnB : va_nd isB = true)
    (kk : ∀ (H1 : Heap) (locs1 : List Loc), va_P D classes ws' H1 → va_D A ws' → va_S A s.heap H1 locs1 → W p l e R s m args below meth c H1 locs1 cells slots Q (F0 m (pc + 3) ls rest)) : W p l e R s m args below meth c H locs cells slots Q (F0 m pc ls st0) := by
  have hFc := va_free (wc := wc) hD hS hA isC hC
  unfold Qv at hr
  refine va_callv hr hS (fun q _ h => hFc q h) hFc (fun u t H1 locs1 ht hvm hw hB1 hz1 hk1 hS1 => ?_)
  obtain ⟨hP1, hK1, hD1⟩ := hB1
  rw [ht] at hP1
  obtain ⟨hP2, hD2⟩ := va_join (wr := wr) (w1 := wc') hP hD isC isR hC hR hnR hdis hk1 hFc hP1 hD1
  exact kk H1 locs1 (hP2.sub isB (fm_of hB)) (hD2.sub isB hnB hB) hS1
variable {own C : String} {index n maxL nL : Nat} {y : MethodName} {bytes : ByteArray} {ret : Option FieldType} {rm : Room} {b : Nat} {As : List Value}
theorem run_V {Qc : Nat → Array Value → State → Outcome → State → Prop} (S : CallFix p m c cc nL s args TW own) (hM : ∀ sz, Met l y (.code y bytes maxL ret :: TW) rm (va_Pc (.ref b :: As) (PW D tys sz wc)) (Qc sz) 0 0 (va_A wc sz)) (hw : ∀ w ∈ wsV own index C y (.code y bytes maxL ret :: TW), w ∈ TW)
    (hd : y.cls = C ∧ y.cls ≠ "java/lang/invoke/MethodHandle" ∧ y.cls ≠ "java/lang/invoke/VarHandle" ∧ (parseMethodDescriptor y.desc).map (fun d => d.parameters.length) = some n) (hRm : rm.cells = 0 ∧ rm.slots = 0 ∧ rm.frames + 1 ≤ R.frames ∧ 8 + (maxL + 11) + rm.locals ≤ R.locals)
    (hK : va_K D classes tys s) (hN : NW s) (hP : va_P D classes ws H) (hD : va_D A ws) (isC : List Nat) (hC : isC.map (fun i => ws[i]?) = wc.map some) (hnC : va_nd isC = true) (ci : Nat) {fs : List Value} {T : u_T} {N : Nat} (hcl : classes[ci]? = some (C, T, N)) (q0 : Nat) (hq0 : ws[q0]? = some (b, .inr (ci, fs)))
    (hsize : ls.size = nL) (hn : As.length = n) (hst : st0 = As.reverse ++ .ref b :: rest) (hroom : (rest.map fun v => v.category).sum ≤ 8) (hdg : decode cc pc = .ok (.invokevirtual index, 3)) (hcs : cells ≤ R.cells ∧ slots ≤ R.slots) :
    va_Run p l e R s m args below meth c H locs cells slots 0 0 (F0 m pc ls st0) rest (Qc H.size (Value.ref b :: As).toArray) (va_A wc H.size) :=
  va_runV (As := As) (rest := rest) S (hM H.size) (cwV n S.2.2.2.2 (gTW hw) rfl hRm.1 hRm.2.1 hd ⟨hRm.2.2.1, hRm.2.2.2⟩) ⟨PW_blind, va_recv hK hP hcl hq0, fun U hU hW => ⟨rfl, PW_here hK hN hP hD isC hC hnC rfl hU hW⟩⟩ rfl hn hsize hst (lv_room hroom) hdg hcs
theorem run_S {Qc : Nat → Array Value → State → Outcome → State → Prop} (S : CallFix p m c cc nL s args TW own) (hM : ∀ sz, Met l y (.code y bytes maxL ret :: TW) rm (va_Pc As (PW D tys sz wc)) (Qc sz) 0 0 (va_A wc sz)) (hw : ∀ w ∈ wsS own index y (.code y bytes maxL ret :: TW), w ∈ TW)
    (hd : y.cls = own ∧ y.cls ≠ "java/lang/invoke/MethodHandle" ∧ y.cls ≠ "java/lang/invoke/VarHandle" ∧ (parseMethodDescriptor y.desc).map (fun d => d.parameters.length) = some n) (hRm : rm.cells = 0 ∧ rm.slots = 0 ∧ rm.frames + 1 ≤ R.frames ∧ 8 + (maxL + 11) + rm.locals ≤ R.locals)
    (hK : va_K D classes tys s) (hN : NW s) (hP : va_P D classes ws H) (hD : va_D A ws) (isC : List Nat) (hC : isC.map (fun i => ws[i]?) = wc.map some) (hnC : va_nd isC = true)
    (hsize : ls.size = nL) (hn : As.length = n) (hst : st0 = As.reverse ++ rest) (hroom : (rest.map fun v => v.category).sum ≤ 8) (hdg : decode cc pc = .ok (.invokestatic index, 3)) (hcs : cells ≤ R.cells ∧ slots ≤ R.slots) :
    va_Run p l e R s m args below meth c H locs cells slots 0 0 (F0 m pc ls st0) rest (Qc H.size As.toArray) (va_A wc H.size) :=
  va_runS (As := As) (rest := rest) S (hM H.size) (cwS n S.2.2.2.2 (gTW hw) rfl hRm.1 hRm.2.1 hd ⟨hRm.2.2.1, hRm.2.2.2⟩) ⟨PW_blind, fun U hU hW => ⟨rfl, PW_here hK hN hP hD isC hC hnC rfl hU hW⟩⟩ rfl hn hsize hst (lv_room hroom) hdg hcs
theorem call_Vi (S : CallFix p m c cc nL s args TW own) (hM : Ci l D tys y (.code y bytes maxL ret) rm (.ref b :: As) wc r wc') (hw : ∀ w ∈ wsV own index C y (.code y bytes maxL ret :: TW), w ∈ TW) (hd : y.cls = C ∧ y.cls ≠ "java/lang/invoke/MethodHandle" ∧ y.cls ≠ "java/lang/invoke/VarHandle" ∧ (parseMethodDescriptor y.desc).map (fun d => d.parameters.length) = some n) (hRm : rm.cells = 0 ∧ rm.slots = 0 ∧ rm.frames + 1 ≤ R.frames ∧ 8 + (maxL + 11) + rm.locals ≤ R.locals)
    (hK : va_K D classes tys s) (hN : NW s) (hP : va_P D classes ws H) (hD : va_D A ws) (hS : va_S A s.heap H locs) (hA : ∀ q, s.heap.size ≤ q → A q)
    (isC isR isB : List Nat) (hC : isC.map (fun i => ws[i]?) = wc.map some) (hnC : va_nd isC = true) (wr : va_W) (hR : isR.map (fun i => ws[i]?) = wr.map some) (hnR : va_nd isR = true) (hdis : ∀ i ∈ isR, i ∉ isC) (hB : isB.map (fun i => (wr ++ wc')[i]?) = ws'.map some) (hnB : va_nd isB = true) (ci : Nat) {fs : List Value} {T : u_T} {N : Nat} (hcl : classes[ci]? = some (C, T, N)) (q0 : Nat) (hq0 : ws[q0]? = some (b, .inr (ci, fs)))
    (hsize : ls.size = nL) (hn : As.length = n) (hst : st0 = As.reverse ++ .ref b :: rest) (hroom : (rest.map fun v => v.category).sum ≤ 8) (hdg : decode cc pc = .ok (.invokevirtual index, 3)) (hcs : cells ≤ R.cells ∧ slots ≤ R.slots)
    (kk : ∀ (H1 : Heap) (locs1 : List Loc), va_P D classes ws' H1 → va_D A ws' → va_S A s.heap H1 locs1 → W p l e R s m args below meth c H1 locs1 cells slots Q (F0 m (pc + 3) ls (.int r :: rest))) : W p l e R s m args below meth c H locs cells slots Q (F0 m pc ls st0) :=
  go_i (run_V (Qc := fun sz => Qi D tys (va_A wc sz) r wc') S hM hw hd hRm hK hN hP hD isC hC hnC ci hcl q0 hq0 hsize hn hst hroom hdg hcs) hP hD hS hA isC isR isB hC wr hR hnR hdis hB hnB kk
theorem call_Vv (S : CallFix p m c cc nL s args TW own) (hM : Cv l D tys y (.code y bytes maxL ret) rm (.ref b :: As) wc wc') (hw : ∀ w ∈ wsV own index C y (.code y bytes maxL ret :: TW), w ∈ TW) (hd : y.cls = C ∧ y.cls ≠ "java/lang/invoke/MethodHandle" ∧ y.cls ≠ "java/lang/invoke/VarHandle" ∧ (parseMethodDescriptor y.desc).map (fun d => d.parameters.length) = some n) (hRm : rm.cells = 0 ∧ rm.slots = 0 ∧ rm.frames + 1 ≤ R.frames ∧ 8 + (maxL + 11) + rm.locals ≤ R.locals)
    (hK : va_K D classes tys s) (hN : NW s) (hP : va_P D classes ws H) (hD : va_D A ws) (hS : va_S A s.heap H locs) (hA : ∀ q, s.heap.size ≤ q → A q)
    (isC isR isB : List Nat) (hC : isC.map (fun i => ws[i]?) = wc.map some) (hnC : va_nd isC = true) (wr : va_W) (hR : isR.map (fun i => ws[i]?) = wr.map some) (hnR : va_nd isR = true) (hdis : ∀ i ∈ isR, i ∉ isC) (hB : isB.map (fun i => (wr ++ wc')[i]?) = ws'.map some) (hnB : va_nd isB = true) (ci : Nat) {fs : List Value} {T : u_T} {N : Nat} (hcl : classes[ci]? = some (C, T, N)) (q0 : Nat) (hq0 : ws[q0]? = some (b, .inr (ci, fs)))
    (hsize : ls.size = nL) (hn : As.length = n) (hst : st0 = As.reverse ++ .ref b :: rest) (hroom : (rest.map fun v => v.category).sum ≤ 8) (hdg : decode cc pc = .ok (.invokevirtual index, 3)) (hcs : cells ≤ R.cells ∧ slots ≤ R.slots)
    (kk : ∀ (H1 : Heap) (locs1 : List Loc), va_P D classes ws' H1 → va_D A ws' → va_S A s.heap H1 locs1 → W p l e R s m args below meth c H1 locs1 cells slots Q (F0 m (pc + 3) ls rest)) : W p l e R s m args below meth c H locs cells slots Q (F0 m pc ls st0) :=
  go_v (run_V (Qc := fun sz => Qv D tys (va_A wc sz) wc') S hM hw hd hRm hK hN hP hD isC hC hnC ci hcl q0 hq0 hsize hn hst hroom hdg hcs) hP hD hS hA isC isR isB hC wr hR hnR hdis hB hnB kk
theorem call_Si (S : CallFix p m c cc nL s args TW own) (hM : Ci l D tys y (.code y bytes maxL ret) rm As wc r wc') (hw : ∀ w ∈ wsS own index y (.code y bytes maxL ret :: TW), w ∈ TW) (hd : y.cls = own ∧ y.cls ≠ "java/lang/invoke/MethodHandle" ∧ y.cls ≠ "java/lang/invoke/VarHandle" ∧ (parseMethodDescriptor y.desc).map (fun d => d.parameters.length) = some n) (hRm : rm.cells = 0 ∧ rm.slots = 0 ∧ rm.frames + 1 ≤ R.frames ∧ 8 + (maxL + 11) + rm.locals ≤ R.locals)
    (hK : va_K D classes tys s) (hN : NW s) (hP : va_P D classes ws H) (hD : va_D A ws) (hS : va_S A s.heap H locs) (hA : ∀ q, s.heap.size ≤ q → A q)
    (isC isR isB : List Nat) (hC : isC.map (fun i => ws[i]?) = wc.map some) (hnC : va_nd isC = true) (wr : va_W) (hR : isR.map (fun i => ws[i]?) = wr.map some) (hnR : va_nd isR = true) (hdis : ∀ i ∈ isR, i ∉ isC) (hB : isB.map (fun i => (wr ++ wc')[i]?) = ws'.map some) (hnB : va_nd isB = true)
    (hsize : ls.size = nL) (hn : As.length = n) (hst : st0 = As.reverse ++ rest) (hroom : (rest.map fun v => v.category).sum ≤ 8) (hdg : decode cc pc = .ok (.invokestatic index, 3)) (hcs : cells ≤ R.cells ∧ slots ≤ R.slots)
    (kk : ∀ (H1 : Heap) (locs1 : List Loc), va_P D classes ws' H1 → va_D A ws' → va_S A s.heap H1 locs1 → W p l e R s m args below meth c H1 locs1 cells slots Q (F0 m (pc + 3) ls (.int r :: rest))) : W p l e R s m args below meth c H locs cells slots Q (F0 m pc ls st0) :=
  go_i (run_S (Qc := fun sz => Qi D tys (va_A wc sz) r wc') S hM hw hd hRm hK hN hP hD isC hC hnC hsize hn hst hroom hdg hcs) hP hD hS hA isC isR isB hC wr hR hnR hdis hB hnB kk
theorem call_Sv (S : CallFix p m c cc nL s args TW own) (hM : Cv l D tys y (.code y bytes maxL ret) rm As wc wc') (hw : ∀ w ∈ wsS own index y (.code y bytes maxL ret :: TW), w ∈ TW) (hd : y.cls = own ∧ y.cls ≠ "java/lang/invoke/MethodHandle" ∧ y.cls ≠ "java/lang/invoke/VarHandle" ∧ (parseMethodDescriptor y.desc).map (fun d => d.parameters.length) = some n) (hRm : rm.cells = 0 ∧ rm.slots = 0 ∧ rm.frames + 1 ≤ R.frames ∧ 8 + (maxL + 11) + rm.locals ≤ R.locals)
    (hK : va_K D classes tys s) (hN : NW s) (hP : va_P D classes ws H) (hD : va_D A ws) (hS : va_S A s.heap H locs) (hA : ∀ q, s.heap.size ≤ q → A q)
    (isC isR isB : List Nat) (hC : isC.map (fun i => ws[i]?) = wc.map some) (hnC : va_nd isC = true) (wr : va_W) (hR : isR.map (fun i => ws[i]?) = wr.map some) (hnR : va_nd isR = true) (hdis : ∀ i ∈ isR, i ∉ isC) (hB : isB.map (fun i => (wr ++ wc')[i]?) = ws'.map some) (hnB : va_nd isB = true)
    (hsize : ls.size = nL) (hn : As.length = n) (hst : st0 = As.reverse ++ rest) (hroom : (rest.map fun v => v.category).sum ≤ 8) (hdg : decode cc pc = .ok (.invokestatic index, 3)) (hcs : cells ≤ R.cells ∧ slots ≤ R.slots)
    (kk : ∀ (H1 : Heap) (locs1 : List Loc), va_P D classes ws' H1 → va_D A ws' → va_S A s.heap H1 locs1 → W p l e R s m args below meth c H1 locs1 cells slots Q (F0 m (pc + 3) ls rest)) : W p l e R s m args below meth c H locs cells slots Q (F0 m pc ls st0) :=
  go_v (run_S (Qc := fun sz => Qv D tys (va_A wc sz) wc') S hM hw hd hRm hK hN hP hD isC hC hnC hsize hn hst hroom hdg hcs) hP hD hS hA isC isR isB hC wr hR hnR hdis hB hnB kk
/-- a loop whose counter goes from b to N by one: world and locals are functions of the counter -/
theorem loopW {nL : Nat} (N : Nat) (wf : Nat → va_W) (lf : Nat → List (Nat × Value))
    (hstep : ∀ b, b < N → (∀ (H : Heap) (locs : List Loc) (ls : Array Slot), va_P D classes (wf (b + 1)) H → va_D A (wf (b + 1)) → va_S A s.heap H locs → lv_has ls nL (lf (b + 1)) → W p l e R s m args below meth c H locs cells slots Q (F0 m pc ls [])) → ∀ (H : Heap) (locs : List Loc) (ls : Array Slot), va_P D classes (wf b) H → va_D A (wf b) → va_S A s.heap H locs → lv_has ls nL (lf b) → W p l e R s m args below meth c H locs cells slots Q (F0 m pc ls []))
    (hexit : ∀ (H : Heap) (locs : List Loc) (ls : Array Slot), va_P D classes (wf N) H → va_D A (wf N) → va_S A s.heap H locs → lv_has ls nL (lf N) → W p l e R s m args below meth c H locs cells slots Q (F0 m pc ls []))
    (b : Nat) (hb : b ≤ N) : ∀ (H : Heap) (locs : List Loc) (ls : Array Slot), va_P D classes (wf b) H → va_D A (wf b) → va_S A s.heap H locs → lv_has ls nL (lf b) → W p l e R s m args below meth c H locs cells slots Q (F0 m pc ls []) := by
  have key : ∀ k b, b + k = N → ∀ (H : Heap) (locs : List Loc) (ls : Array Slot), va_P D classes (wf b) H → va_D A (wf b) → va_S A s.heap H locs → lv_has ls nL (lf b) → W p l e R s m args below meth c H locs cells slots Q (F0 m pc ls []) := by
    intro k
    induction k with
    | zero =>
      intro b hb
      have hb : b = N := hb
      subst hb
      exact hexit
    | succ k ih =>
      intro b hb
      exact hstep b (by omega) (ih (b + 1) (by omega))
  exact key (N - b) b (by omega)
end CALLS
/-! the worlds: CommitLog's disk, CommitLog with it, the model -/
abbrev tyK (k : Nat → ClassId) : List (ClassId × FieldType) := [(k 0, .byte), (k 1, .boolean), (k 2, .int)]
abbrev aB (k : Nat → ClassId) (q : Nat) (f : Nat → Int8) : Nat × va_E := (q, .inl (k 0, 384, .inl (eB f)))
abbrev aZ (k : Nat → ClassId) (q : Nat) (f : Nat → Bool) : Nat × va_E := (q, .inl (k 1, 24, .inl (eZ f)))
abbrev aN (k : Nat → ClassId) (q : Nat) (f : Nat → Nat) : Nat × va_E := (q, .inl (k 2, 24, .inl (eN f)))
abbrev oD (q : Nat → Nat) (ct : Nat) (mk on : Bool) (un sh : Nat) : Nat × va_E := (q 1, .inr (1, [.ref (q 2), .ref (q 3), .ref (q 4), .ref (q 5), .ref (q 6), .int (nI ct), .int (bI mk), .int (bI on), .int (nI un), .int (nI sh)]))
abbrev oL (q : Nat → Nat) : Nat × va_E := (q 0, .inr (0, [.ref (q 1)]))
abbrev oM (q : Nat → Nat) (off mk : Bool) (la : Nat) (lf : Int32) (sh : Nat) : Nat × va_E := (q 7, .inr (2, [.ref (q 8), .ref (q 9), .ref (q 10), .ref (q 11), .ref (q 12), .int (bI off), .int (bI mk), .int (nI la), .int lf, .int (nI sh)]))
abbrev dW (k : Nat → ClassId) (q : Nat → Nat) (wk hm lg : Nat → Int8) (dt : Nat → Bool) (ld : Nat → Nat) (ct : Nat) (mk on : Bool) (un sh : Nat) : va_W := [oD q ct mk on un sh, aB k (q 2) wk, aB k (q 3) hm, aB k (q 4) lg, aZ k (q 5) dt, aN k (q 6) ld]
abbrev cW (k : Nat → ClassId) (q : Nat → Nat) (wk hm lg : Nat → Int8) (dt : Nat → Bool) (ld : Nat → Nat) (ct : Nat) (mk on : Bool) (un sh : Nat) : va_W := [oL q, oD q ct mk on un sh, aB k (q 2) wk, aB k (q 3) hm, aB k (q 4) lg, aZ k (q 5) dt, aN k (q 6) ld]
abbrev mW (k : Nat → ClassId) (q : Nat → Nat) (wk dk lg : Nat → Int8) (dt lo : Nat → Bool) (off mk : Bool) (la : Nat) (lf : Int32) (sh : Nat) : va_W := [oM q off mk la lf sh, aB k (q 8) wk, aB k (q 9) dk, aB k (q 10) lg, aZ k (q 11) dt, aZ k (q 12) lo]
end
section
theorem d_Disk_init_0 : decode b_Disk_init 0 = .ok (.aload_n 0, 1) := by decide +kernel
theorem d_Disk_init_1 : decode b_Disk_init 1 = .ok (.invokespecial 1, 3) := by decide +kernel
theorem d_Disk_init_4 : decode b_Disk_init 4 = .ok (.aload_n 0, 1) := by decide +kernel
theorem d_Disk_init_5 : decode b_Disk_init 5 = .ok (.sipush 384, 3) := by decide +kernel
theorem d_Disk_init_8 : decode b_Disk_init 8 = .ok (.newarray .byte, 2) := by decide +kernel
theorem d_Disk_init_10 : decode b_Disk_init 10 = .ok (.putfield 9, 3) := by decide +kernel
theorem d_Disk_init_13 : decode b_Disk_init 13 = .ok (.aload_n 0, 1) := by decide +kernel
theorem d_Disk_init_14 : decode b_Disk_init 14 = .ok (.sipush 384, 3) := by decide +kernel
theorem d_Disk_init_17 : decode b_Disk_init 17 = .ok (.newarray .byte, 2) := by decide +kernel
theorem d_Disk_init_19 : decode b_Disk_init 19 = .ok (.putfield 13, 3) := by decide +kernel
theorem d_Disk_init_22 : decode b_Disk_init 22 = .ok (.aload_n 0, 1) := by decide +kernel
theorem d_Disk_init_23 : decode b_Disk_init 23 = .ok (.sipush 384, 3) := by decide +kernel
theorem d_Disk_init_26 : decode b_Disk_init 26 = .ok (.newarray .byte, 2) := by decide +kernel
theorem d_Disk_init_28 : decode b_Disk_init 28 = .ok (.putfield 16, 3) := by decide +kernel
theorem d_Disk_init_31 : decode b_Disk_init 31 = .ok (.aload_n 0, 1) := by decide +kernel
theorem d_Disk_init_32 : decode b_Disk_init 32 = .ok (.bipush 24, 2) := by decide +kernel
theorem d_Disk_init_34 : decode b_Disk_init 34 = .ok (.newarray .boolean, 2) := by decide +kernel
theorem d_Disk_init_36 : decode b_Disk_init 36 = .ok (.putfield 19, 3) := by decide +kernel
theorem d_Disk_init_39 : decode b_Disk_init 39 = .ok (.aload_n 0, 1) := by decide +kernel
theorem d_Disk_init_40 : decode b_Disk_init 40 = .ok (.bipush 24, 2) := by decide +kernel
theorem d_Disk_init_42 : decode b_Disk_init 42 = .ok (.newarray .int, 2) := by decide +kernel
theorem d_Disk_init_44 : decode b_Disk_init 44 = .ok (.putfield 23, 3) := by decide +kernel
theorem d_Disk_init_47 : decode b_Disk_init 47 = .ok (.aload_n 0, 1) := by decide +kernel
theorem d_Disk_init_48 : decode b_Disk_init 48 = .ok (.iconst 1, 1) := by decide +kernel
theorem d_Disk_init_49 : decode b_Disk_init 49 = .ok (.putfield 27, 3) := by decide +kernel
theorem d_Disk_init_52 : decode b_Disk_init 52 = .ok (.return_, 1) := by decide +kernel
theorem d_Disk_copy_0 : decode b_Disk_copy 0 = .ok (.aload_n 0, 1) := by decide +kernel
theorem d_Disk_copy_1 : decode b_Disk_copy 1 = .ok (.iload_n 1, 1) := by decide +kernel
theorem d_Disk_copy_2 : decode b_Disk_copy 2 = .ok (.bipush 16, 2) := by decide +kernel
theorem d_Disk_copy_4 : decode b_Disk_copy 4 = .ok (.imul, 1) := by decide +kernel
theorem d_Disk_copy_5 : decode b_Disk_copy 5 = .ok (.aload_n 2, 1) := by decide +kernel
theorem d_Disk_copy_6 : decode b_Disk_copy 6 = .ok (.iload_n 3, 1) := by decide +kernel
theorem d_Disk_copy_7 : decode b_Disk_copy 7 = .ok (.bipush 16, 2) := by decide +kernel
theorem d_Disk_copy_9 : decode b_Disk_copy 9 = .ok (.imul, 1) := by decide +kernel
theorem d_Disk_copy_10 : decode b_Disk_copy 10 = .ok (.bipush 16, 2) := by decide +kernel
theorem d_Disk_copy_12 : decode b_Disk_copy 12 = .ok (.invokestatic 31, 3) := by decide +kernel
theorem d_Disk_copy_15 : decode b_Disk_copy 15 = .ok (.return_, 1) := by decide +kernel
theorem d_Disk_touch_0 : decode b_Disk_touch 0 = .ok (.aload_n 0, 1) := by decide +kernel
theorem d_Disk_touch_1 : decode b_Disk_touch 1 = .ok (.getfield 19, 3) := by decide +kernel
theorem d_Disk_touch_4 : decode b_Disk_touch 4 = .ok (.iload_n 1, 1) := by decide +kernel
theorem d_Disk_touch_5 : decode b_Disk_touch 5 = .ok (.iconst 1, 1) := by decide +kernel
theorem d_Disk_touch_6 : decode b_Disk_touch 6 = .ok (.bastore, 1) := by decide +kernel
theorem d_Disk_touch_7 : decode b_Disk_touch 7 = .ok (.return_, 1) := by decide +kernel
theorem d_Disk_revert_0 : decode b_Disk_revert 0 = .ok (.iconst 0, 1) := by decide +kernel
theorem d_Disk_revert_1 : decode b_Disk_revert 1 = .ok (.istore_n 1, 1) := by decide +kernel
theorem d_Disk_revert_2 : decode b_Disk_revert 2 = .ok (.iload_n 1, 1) := by decide +kernel
theorem d_Disk_revert_3 : decode b_Disk_revert 3 = .ok (.bipush 24, 2) := by decide +kernel
theorem d_Disk_revert_5 : decode b_Disk_revert 5 = .ok (.if_icmp .ge 38, 3) := by decide +kernel
theorem d_Disk_revert_8 : decode b_Disk_revert 8 = .ok (.aload_n 0, 1) := by decide +kernel
theorem d_Disk_revert_9 : decode b_Disk_revert 9 = .ok (.getfield 19, 3) := by decide +kernel
theorem d_Disk_revert_12 : decode b_Disk_revert 12 = .ok (.iload_n 1, 1) := by decide +kernel
theorem d_Disk_revert_13 : decode b_Disk_revert 13 = .ok (.baload, 1) := by decide +kernel
theorem d_Disk_revert_14 : decode b_Disk_revert 14 = .ok (.ifCond .eq 16, 3) := by decide +kernel
theorem d_Disk_revert_17 : decode b_Disk_revert 17 = .ok (.aload_n 0, 1) := by decide +kernel
theorem d_Disk_revert_18 : decode b_Disk_revert 18 = .ok (.getfield 13, 3) := by decide +kernel
theorem d_Disk_revert_21 : decode b_Disk_revert 21 = .ok (.iload_n 1, 1) := by decide +kernel
theorem d_Disk_revert_22 : decode b_Disk_revert 22 = .ok (.aload_n 0, 1) := by decide +kernel
theorem d_Disk_revert_23 : decode b_Disk_revert 23 = .ok (.getfield 9, 3) := by decide +kernel
theorem d_Disk_revert_26 : decode b_Disk_revert 26 = .ok (.iload_n 1, 1) := by decide +kernel
theorem d_Disk_revert_27 : decode b_Disk_revert 27 = .ok (.invokestatic 37, 3) := by decide +kernel
theorem d_Disk_revert_30 : decode b_Disk_revert 30 = .ok (.aload_n 0, 1) := by decide +kernel
theorem d_Disk_revert_31 : decode b_Disk_revert 31 = .ok (.getfield 19, 3) := by decide +kernel
theorem d_Disk_revert_34 : decode b_Disk_revert 34 = .ok (.iload_n 1, 1) := by decide +kernel
theorem d_Disk_revert_35 : decode b_Disk_revert 35 = .ok (.iconst 0, 1) := by decide +kernel
theorem d_Disk_revert_36 : decode b_Disk_revert 36 = .ok (.bastore, 1) := by decide +kernel
theorem d_Disk_revert_37 : decode b_Disk_revert 37 = .ok (.iinc 1 1, 3) := by decide +kernel
theorem d_Disk_revert_40 : decode b_Disk_revert 40 = .ok (.goto (-38), 3) := by decide +kernel
theorem d_Disk_revert_43 : decode b_Disk_revert 43 = .ok (.return_, 1) := by decide +kernel
theorem d_Disk_fills_0 : decode b_Disk_fills 0 = .ok (.aload_n 0, 1) := by decide +kernel
theorem d_Disk_fills_1 : decode b_Disk_fills 1 = .ok (.iconst 0, 1) := by decide +kernel
theorem d_Disk_fills_2 : decode b_Disk_fills 2 = .ok (.putfield 41, 3) := by decide +kernel
theorem d_Disk_fills_5 : decode b_Disk_fills 5 = .ok (.iconst 0, 1) := by decide +kernel
theorem d_Disk_fills_6 : decode b_Disk_fills 6 = .ok (.istore_n 1, 1) := by decide +kernel
theorem d_Disk_fills_7 : decode b_Disk_fills 7 = .ok (.iload_n 1, 1) := by decide +kernel
theorem d_Disk_fills_8 : decode b_Disk_fills 8 = .ok (.bipush 24, 2) := by decide +kernel
theorem d_Disk_fills_10 : decode b_Disk_fills 10 = .ok (.if_icmp .ge 41, 3) := by decide +kernel
theorem d_Disk_fills_13 : decode b_Disk_fills 13 = .ok (.aload_n 0, 1) := by decide +kernel
theorem d_Disk_fills_14 : decode b_Disk_fills 14 = .ok (.getfield 19, 3) := by decide +kernel
theorem d_Disk_fills_17 : decode b_Disk_fills 17 = .ok (.iload_n 1, 1) := by decide +kernel
theorem d_Disk_fills_18 : decode b_Disk_fills 18 = .ok (.baload, 1) := by decide +kernel
theorem d_Disk_fills_19 : decode b_Disk_fills 19 = .ok (.ifCond .ne 6, 3) := by decide +kernel
theorem d_Disk_fills_22 : decode b_Disk_fills 22 = .ok (.goto 23, 3) := by decide +kernel
theorem d_Disk_fills_25 : decode b_Disk_fills 25 = .ok (.aload_n 0, 1) := by decide +kernel
theorem d_Disk_fills_26 : decode b_Disk_fills 26 = .ok (.getfield 23, 3) := by decide +kernel
theorem d_Disk_fills_29 : decode b_Disk_fills 29 = .ok (.aload_n 0, 1) := by decide +kernel
theorem d_Disk_fills_30 : decode b_Disk_fills 30 = .ok (.getfield 41, 3) := by decide +kernel
theorem d_Disk_fills_33 : decode b_Disk_fills 33 = .ok (.iload_n 1, 1) := by decide +kernel
theorem d_Disk_fills_34 : decode b_Disk_fills 34 = .ok (.iastore, 1) := by decide +kernel
theorem d_Disk_fills_35 : decode b_Disk_fills 35 = .ok (.aload_n 0, 1) := by decide +kernel
theorem d_Disk_fills_36 : decode b_Disk_fills 36 = .ok (.dup, 1) := by decide +kernel
theorem d_Disk_fills_37 : decode b_Disk_fills 37 = .ok (.getfield 41, 3) := by decide +kernel
theorem d_Disk_fills_40 : decode b_Disk_fills 40 = .ok (.iconst 1, 1) := by decide +kernel
theorem d_Disk_fills_41 : decode b_Disk_fills 41 = .ok (.iadd, 1) := by decide +kernel
theorem d_Disk_fills_42 : decode b_Disk_fills 42 = .ok (.putfield 41, 3) := by decide +kernel
theorem d_Disk_fills_45 : decode b_Disk_fills 45 = .ok (.iinc 1 1, 3) := by decide +kernel
theorem d_Disk_fills_48 : decode b_Disk_fills 48 = .ok (.goto (-41), 3) := by decide +kernel
theorem d_Disk_fills_51 : decode b_Disk_fills 51 = .ok (.return_, 1) := by decide +kernel
theorem d_Disk_homes_0 : decode b_Disk_homes 0 = .ok (.iconst 0, 1) := by decide +kernel
theorem d_Disk_homes_1 : decode b_Disk_homes 1 = .ok (.istore_n 2, 1) := by decide +kernel
theorem d_Disk_homes_2 : decode b_Disk_homes 2 = .ok (.iload_n 2, 1) := by decide +kernel
theorem d_Disk_homes_3 : decode b_Disk_homes 3 = .ok (.iload_n 1, 1) := by decide +kernel
theorem d_Disk_homes_4 : decode b_Disk_homes 4 = .ok (.if_icmp .ge 27, 3) := by decide +kernel
theorem d_Disk_homes_7 : decode b_Disk_homes 7 = .ok (.aload_n 0, 1) := by decide +kernel
theorem d_Disk_homes_8 : decode b_Disk_homes 8 = .ok (.getfield 16, 3) := by decide +kernel
theorem d_Disk_homes_11 : decode b_Disk_homes 11 = .ok (.iload_n 2, 1) := by decide +kernel
theorem d_Disk_homes_12 : decode b_Disk_homes 12 = .ok (.aload_n 0, 1) := by decide +kernel
theorem d_Disk_homes_13 : decode b_Disk_homes 13 = .ok (.getfield 13, 3) := by decide +kernel
theorem d_Disk_homes_16 : decode b_Disk_homes 16 = .ok (.aload_n 0, 1) := by decide +kernel
theorem d_Disk_homes_17 : decode b_Disk_homes 17 = .ok (.getfield 23, 3) := by decide +kernel
theorem d_Disk_homes_20 : decode b_Disk_homes 20 = .ok (.iload_n 2, 1) := by decide +kernel
theorem d_Disk_homes_21 : decode b_Disk_homes 21 = .ok (.iaload, 1) := by decide +kernel
theorem d_Disk_homes_22 : decode b_Disk_homes 22 = .ok (.invokestatic 37, 3) := by decide +kernel
theorem d_Disk_homes_25 : decode b_Disk_homes 25 = .ok (.iinc 2 1, 3) := by decide +kernel
theorem d_Disk_homes_28 : decode b_Disk_homes 28 = .ok (.goto (-26), 3) := by decide +kernel
theorem d_Disk_homes_31 : decode b_Disk_homes 31 = .ok (.return_, 1) := by decide +kernel
theorem d_Disk_commit_0 : decode b_Disk_commit 0 = .ok (.aload_n 0, 1) := by decide +kernel
theorem d_Disk_commit_1 : decode b_Disk_commit 1 = .ok (.invokevirtual 45, 3) := by decide +kernel
theorem d_Disk_commit_4 : decode b_Disk_commit 4 = .ok (.aload_n 0, 1) := by decide +kernel
theorem d_Disk_commit_5 : decode b_Disk_commit 5 = .ok (.getfield 48, 3) := by decide +kernel
theorem d_Disk_commit_8 : decode b_Disk_commit 8 = .ok (.iconst 1, 1) := by decide +kernel
theorem d_Disk_commit_9 : decode b_Disk_commit 9 = .ok (.if_icmp .ne 7, 3) := by decide +kernel
theorem d_Disk_commit_12 : decode b_Disk_commit 12 = .ok (.iconst 1, 1) := by decide +kernel
theorem d_Disk_commit_13 : decode b_Disk_commit 13 = .ok (.goto 4, 3) := by decide +kernel
theorem d_Disk_commit_16 : decode b_Disk_commit 16 = .ok (.iconst 0, 1) := by decide +kernel
theorem d_Disk_commit_17 : decode b_Disk_commit 17 = .ok (.istore_n 1, 1) := by decide +kernel
theorem d_Disk_commit_18 : decode b_Disk_commit 18 = .ok (.aload_n 0, 1) := by decide +kernel
theorem d_Disk_commit_19 : decode b_Disk_commit 19 = .ok (.dup, 1) := by decide +kernel
theorem d_Disk_commit_20 : decode b_Disk_commit 20 = .ok (.getfield 48, 3) := by decide +kernel
theorem d_Disk_commit_23 : decode b_Disk_commit 23 = .ok (.aload_n 0, 1) := by decide +kernel
theorem d_Disk_commit_24 : decode b_Disk_commit 24 = .ok (.getfield 48, 3) := by decide +kernel
theorem d_Disk_commit_27 : decode b_Disk_commit 27 = .ok (.ifCond .le 7, 3) := by decide +kernel
theorem d_Disk_commit_30 : decode b_Disk_commit 30 = .ok (.iconst 1, 1) := by decide +kernel
theorem d_Disk_commit_31 : decode b_Disk_commit 31 = .ok (.goto 4, 3) := by decide +kernel
theorem d_Disk_commit_34 : decode b_Disk_commit 34 = .ok (.iconst 0, 1) := by decide +kernel
theorem d_Disk_commit_35 : decode b_Disk_commit 35 = .ok (.isub, 1) := by decide +kernel
theorem d_Disk_commit_36 : decode b_Disk_commit 36 = .ok (.putfield 48, 3) := by decide +kernel
theorem d_Disk_commit_39 : decode b_Disk_commit 39 = .ok (.iload_n 1, 1) := by decide +kernel
theorem d_Disk_commit_40 : decode b_Disk_commit 40 = .ok (.ifCond .eq 29, 3) := by decide +kernel
theorem d_Disk_commit_43 : decode b_Disk_commit 43 = .ok (.aload_n 0, 1) := by decide +kernel
theorem d_Disk_commit_44 : decode b_Disk_commit 44 = .ok (.getfield 51, 3) := by decide +kernel
theorem d_Disk_commit_47 : decode b_Disk_commit 47 = .ok (.sipush 500, 3) := by decide +kernel
theorem d_Disk_commit_50 : decode b_Disk_commit 50 = .ok (.if_icmp .ge 19, 3) := by decide +kernel
theorem d_Disk_commit_53 : decode b_Disk_commit 53 = .ok (.aload_n 0, 1) := by decide +kernel
theorem d_Disk_commit_54 : decode b_Disk_commit 54 = .ok (.getfield 41, 3) := by decide +kernel
theorem d_Disk_commit_57 : decode b_Disk_commit 57 = .ok (.aload_n 0, 1) := by decide +kernel
theorem d_Disk_commit_58 : decode b_Disk_commit 58 = .ok (.getfield 51, 3) := by decide +kernel
theorem d_Disk_commit_61 : decode b_Disk_commit 61 = .ok (.imul, 1) := by decide +kernel
theorem d_Disk_commit_62 : decode b_Disk_commit 62 = .ok (.sipush 500, 3) := by decide +kernel
theorem d_Disk_commit_65 : decode b_Disk_commit 65 = .ok (.idiv, 1) := by decide +kernel
theorem d_Disk_commit_66 : decode b_Disk_commit 66 = .ok (.goto 7, 3) := by decide +kernel
theorem d_Disk_commit_69 : decode b_Disk_commit 69 = .ok (.aload_n 0, 1) := by decide +kernel
theorem d_Disk_commit_70 : decode b_Disk_commit 70 = .ok (.getfield 41, 3) := by decide +kernel
theorem d_Disk_commit_73 : decode b_Disk_commit 73 = .ok (.istore_n 2, 1) := by decide +kernel
theorem d_Disk_commit_74 : decode b_Disk_commit 74 = .ok (.iconst 0, 1) := by decide +kernel
theorem d_Disk_commit_75 : decode b_Disk_commit 75 = .ok (.istore_n 3, 1) := by decide +kernel
theorem d_Disk_commit_76 : decode b_Disk_commit 76 = .ok (.iload_n 3, 1) := by decide +kernel
theorem d_Disk_commit_77 : decode b_Disk_commit 77 = .ok (.iload_n 2, 1) := by decide +kernel
theorem d_Disk_commit_78 : decode b_Disk_commit 78 = .ok (.if_icmp .ge 27, 3) := by decide +kernel
theorem d_Disk_commit_81 : decode b_Disk_commit 81 = .ok (.aload_n 0, 1) := by decide +kernel
theorem d_Disk_commit_82 : decode b_Disk_commit 82 = .ok (.getfield 9, 3) := by decide +kernel
theorem d_Disk_commit_85 : decode b_Disk_commit 85 = .ok (.aload_n 0, 1) := by decide +kernel
theorem d_Disk_commit_86 : decode b_Disk_commit 86 = .ok (.getfield 23, 3) := by decide +kernel
theorem d_Disk_commit_89 : decode b_Disk_commit 89 = .ok (.iload_n 3, 1) := by decide +kernel
theorem d_Disk_commit_90 : decode b_Disk_commit 90 = .ok (.iaload, 1) := by decide +kernel
theorem d_Disk_commit_91 : decode b_Disk_commit 91 = .ok (.aload_n 0, 1) := by decide +kernel
theorem d_Disk_commit_92 : decode b_Disk_commit 92 = .ok (.getfield 16, 3) := by decide +kernel
theorem d_Disk_commit_95 : decode b_Disk_commit 95 = .ok (.iload_n 3, 1) := by decide +kernel
theorem d_Disk_commit_96 : decode b_Disk_commit 96 = .ok (.invokestatic 37, 3) := by decide +kernel
theorem d_Disk_commit_99 : decode b_Disk_commit 99 = .ok (.iinc 3 1, 3) := by decide +kernel
theorem d_Disk_commit_102 : decode b_Disk_commit 102 = .ok (.goto (-26), 3) := by decide +kernel
theorem d_Disk_commit_105 : decode b_Disk_commit 105 = .ok (.iload_n 1, 1) := by decide +kernel
theorem d_Disk_commit_106 : decode b_Disk_commit 106 = .ok (.ifCond .eq 18, 3) := by decide +kernel
theorem d_Disk_commit_109 : decode b_Disk_commit 109 = .ok (.aload_n 0, 1) := by decide +kernel
theorem d_Disk_commit_110 : decode b_Disk_commit 110 = .ok (.getfield 51, 3) := by decide +kernel
theorem d_Disk_commit_113 : decode b_Disk_commit 113 = .ok (.sipush 500, 3) := by decide +kernel
theorem d_Disk_commit_116 : decode b_Disk_commit 116 = .ok (.if_icmp .ge 8, 3) := by decide +kernel
theorem d_Disk_commit_119 : decode b_Disk_commit 119 = .ok (.aload_n 0, 1) := by decide +kernel
theorem d_Disk_commit_120 : decode b_Disk_commit 120 = .ok (.invokevirtual 54, 3) := by decide +kernel
theorem d_Disk_commit_123 : decode b_Disk_commit 123 = .ok (.ireturn, 1) := by decide +kernel
theorem d_Disk_commit_124 : decode b_Disk_commit 124 = .ok (.aload_n 0, 1) := by decide +kernel
theorem d_Disk_commit_125 : decode b_Disk_commit 125 = .ok (.iconst 1, 1) := by decide +kernel
theorem d_Disk_commit_126 : decode b_Disk_commit 126 = .ok (.putfield 58, 3) := by decide +kernel
theorem d_Disk_commit_129 : decode b_Disk_commit 129 = .ok (.aload_n 0, 1) := by decide +kernel
theorem d_Disk_commit_130 : decode b_Disk_commit 130 = .ok (.iload_n 1, 1) := by decide +kernel
theorem d_Disk_commit_131 : decode b_Disk_commit 131 = .ok (.ifCond .eq 23, 3) := by decide +kernel
theorem d_Disk_commit_134 : decode b_Disk_commit 134 = .ok (.aload_n 0, 1) := by decide +kernel
theorem d_Disk_commit_135 : decode b_Disk_commit 135 = .ok (.getfield 41, 3) := by decide +kernel
theorem d_Disk_commit_138 : decode b_Disk_commit 138 = .ok (.aload_n 0, 1) := by decide +kernel
theorem d_Disk_commit_139 : decode b_Disk_commit 139 = .ok (.getfield 51, 3) := by decide +kernel
theorem d_Disk_commit_142 : decode b_Disk_commit 142 = .ok (.sipush 500, 3) := by decide +kernel
theorem d_Disk_commit_145 : decode b_Disk_commit 145 = .ok (.isub, 1) := by decide +kernel
theorem d_Disk_commit_146 : decode b_Disk_commit 146 = .ok (.imul, 1) := by decide +kernel
theorem d_Disk_commit_147 : decode b_Disk_commit 147 = .ok (.sipush 500, 3) := by decide +kernel
theorem d_Disk_commit_150 : decode b_Disk_commit 150 = .ok (.idiv, 1) := by decide +kernel
theorem d_Disk_commit_151 : decode b_Disk_commit 151 = .ok (.goto 7, 3) := by decide +kernel
theorem d_Disk_commit_154 : decode b_Disk_commit 154 = .ok (.aload_n 0, 1) := by decide +kernel
theorem d_Disk_commit_155 : decode b_Disk_commit 155 = .ok (.getfield 41, 3) := by decide +kernel
theorem d_Disk_commit_158 : decode b_Disk_commit 158 = .ok (.invokevirtual 61, 3) := by decide +kernel
theorem d_Disk_commit_161 : decode b_Disk_commit 161 = .ok (.iload_n 1, 1) := by decide +kernel
theorem d_Disk_commit_162 : decode b_Disk_commit 162 = .ok (.ifCond .eq 8, 3) := by decide +kernel
theorem d_Disk_commit_165 : decode b_Disk_commit 165 = .ok (.aload_n 0, 1) := by decide +kernel
theorem d_Disk_commit_166 : decode b_Disk_commit 166 = .ok (.invokevirtual 54, 3) := by decide +kernel
theorem d_Disk_commit_169 : decode b_Disk_commit 169 = .ok (.ireturn, 1) := by decide +kernel
theorem d_Disk_commit_170 : decode b_Disk_commit 170 = .ok (.aload_n 0, 1) := by decide +kernel
theorem d_Disk_commit_171 : decode b_Disk_commit 171 = .ok (.iconst 0, 1) := by decide +kernel
theorem d_Disk_commit_172 : decode b_Disk_commit 172 = .ok (.putfield 58, 3) := by decide +kernel
theorem d_Disk_commit_175 : decode b_Disk_commit 175 = .ok (.iconst 0, 1) := by decide +kernel
theorem d_Disk_commit_176 : decode b_Disk_commit 176 = .ok (.istore_n 3, 1) := by decide +kernel
theorem d_Disk_commit_177 : decode b_Disk_commit 177 = .ok (.iload_n 3, 1) := by decide +kernel
theorem d_Disk_commit_178 : decode b_Disk_commit 178 = .ok (.aload_n 0, 1) := by decide +kernel
theorem d_Disk_commit_179 : decode b_Disk_commit 179 = .ok (.getfield 41, 3) := by decide +kernel
theorem d_Disk_commit_182 : decode b_Disk_commit 182 = .ok (.if_icmp .ge 21, 3) := by decide +kernel
theorem d_Disk_commit_185 : decode b_Disk_commit 185 = .ok (.aload_n 0, 1) := by decide +kernel
theorem d_Disk_commit_186 : decode b_Disk_commit 186 = .ok (.getfield 19, 3) := by decide +kernel
theorem d_Disk_commit_189 : decode b_Disk_commit 189 = .ok (.aload_n 0, 1) := by decide +kernel
theorem d_Disk_commit_190 : decode b_Disk_commit 190 = .ok (.getfield 23, 3) := by decide +kernel
theorem d_Disk_commit_193 : decode b_Disk_commit 193 = .ok (.iload_n 3, 1) := by decide +kernel
theorem d_Disk_commit_194 : decode b_Disk_commit 194 = .ok (.iaload, 1) := by decide +kernel
theorem d_Disk_commit_195 : decode b_Disk_commit 195 = .ok (.iconst 0, 1) := by decide +kernel
theorem d_Disk_commit_196 : decode b_Disk_commit 196 = .ok (.bastore, 1) := by decide +kernel
theorem d_Disk_commit_197 : decode b_Disk_commit 197 = .ok (.iinc 3 1, 3) := by decide +kernel
theorem d_Disk_commit_200 : decode b_Disk_commit 200 = .ok (.goto (-23), 3) := by decide +kernel
theorem d_Disk_commit_203 : decode b_Disk_commit 203 = .ok (.iconst 1, 1) := by decide +kernel
theorem d_Disk_commit_204 : decode b_Disk_commit 204 = .ok (.ireturn, 1) := by decide +kernel
theorem d_Disk_off_0 : decode b_Disk_off 0 = .ok (.aload_n 0, 1) := by decide +kernel
theorem d_Disk_off_1 : decode b_Disk_off 1 = .ok (.iconst 0, 1) := by decide +kernel
theorem d_Disk_off_2 : decode b_Disk_off 2 = .ok (.putfield 27, 3) := by decide +kernel
theorem d_Disk_off_5 : decode b_Disk_off 5 = .ok (.iconst 0, 1) := by decide +kernel
theorem d_Disk_off_6 : decode b_Disk_off 6 = .ok (.ireturn, 1) := by decide +kernel
theorem d_Disk_start_0 : decode b_Disk_start 0 = .ok (.aload_n 0, 1) := by decide +kernel
theorem d_Disk_start_1 : decode b_Disk_start 1 = .ok (.getfield 58, 3) := by decide +kernel
theorem d_Disk_start_4 : decode b_Disk_start 4 = .ok (.ifCond .ne 7, 3) := by decide +kernel
theorem d_Disk_start_7 : decode b_Disk_start 7 = .ok (.iconst 0, 1) := by decide +kernel
theorem d_Disk_start_8 : decode b_Disk_start 8 = .ok (.goto 27, 3) := by decide +kernel
theorem d_Disk_start_11 : decode b_Disk_start 11 = .ok (.iload_n 1, 1) := by decide +kernel
theorem d_Disk_start_12 : decode b_Disk_start 12 = .ok (.sipush 1000, 3) := by decide +kernel
theorem d_Disk_start_15 : decode b_Disk_start 15 = .ok (.if_icmp .ne 10, 3) := by decide +kernel
theorem d_Disk_start_18 : decode b_Disk_start 18 = .ok (.aload_n 0, 1) := by decide +kernel
theorem d_Disk_start_19 : decode b_Disk_start 19 = .ok (.getfield 41, 3) := by decide +kernel
theorem d_Disk_start_22 : decode b_Disk_start 22 = .ok (.goto 13, 3) := by decide +kernel
theorem d_Disk_start_25 : decode b_Disk_start 25 = .ok (.aload_n 0, 1) := by decide +kernel
theorem d_Disk_start_26 : decode b_Disk_start 26 = .ok (.getfield 41, 3) := by decide +kernel
theorem d_Disk_start_29 : decode b_Disk_start 29 = .ok (.iload_n 1, 1) := by decide +kernel
theorem d_Disk_start_30 : decode b_Disk_start 30 = .ok (.imul, 1) := by decide +kernel
theorem d_Disk_start_31 : decode b_Disk_start 31 = .ok (.sipush 1000, 3) := by decide +kernel
theorem d_Disk_start_34 : decode b_Disk_start 34 = .ok (.idiv, 1) := by decide +kernel
theorem d_Disk_start_35 : decode b_Disk_start 35 = .ok (.istore_n 2, 1) := by decide +kernel
theorem d_Disk_start_36 : decode b_Disk_start 36 = .ok (.aload_n 0, 1) := by decide +kernel
theorem d_Disk_start_37 : decode b_Disk_start 37 = .ok (.iload_n 2, 1) := by decide +kernel
theorem d_Disk_start_38 : decode b_Disk_start 38 = .ok (.invokevirtual 61, 3) := by decide +kernel
theorem d_Disk_start_41 : decode b_Disk_start 41 = .ok (.iload_n 1, 1) := by decide +kernel
theorem d_Disk_start_42 : decode b_Disk_start 42 = .ok (.sipush 1000, 3) := by decide +kernel
theorem d_Disk_start_45 : decode b_Disk_start 45 = .ok (.if_icmp .ge 5, 3) := by decide +kernel
theorem d_Disk_start_48 : decode b_Disk_start 48 = .ok (.iconst 0, 1) := by decide +kernel
theorem d_Disk_start_49 : decode b_Disk_start 49 = .ok (.ireturn, 1) := by decide +kernel
theorem d_Disk_start_50 : decode b_Disk_start 50 = .ok (.aload_n 0, 1) := by decide +kernel
theorem d_Disk_start_51 : decode b_Disk_start 51 = .ok (.iconst 0, 1) := by decide +kernel
theorem d_Disk_start_52 : decode b_Disk_start 52 = .ok (.putfield 58, 3) := by decide +kernel
theorem d_Disk_start_55 : decode b_Disk_start 55 = .ok (.aload_n 0, 1) := by decide +kernel
theorem d_Disk_start_56 : decode b_Disk_start 56 = .ok (.iconst 1, 1) := by decide +kernel
theorem d_Disk_start_57 : decode b_Disk_start 57 = .ok (.putfield 27, 3) := by decide +kernel
theorem d_Disk_start_60 : decode b_Disk_start 60 = .ok (.iconst 0, 1) := by decide +kernel
theorem d_Disk_start_61 : decode b_Disk_start 61 = .ok (.istore_n 3, 1) := by decide +kernel
theorem d_Disk_start_62 : decode b_Disk_start 62 = .ok (.iload_n 3, 1) := by decide +kernel
theorem d_Disk_start_63 : decode b_Disk_start 63 = .ok (.bipush 24, 2) := by decide +kernel
theorem d_Disk_start_65 : decode b_Disk_start 65 = .ok (.if_icmp .ge 29, 3) := by decide +kernel
theorem d_Disk_start_68 : decode b_Disk_start 68 = .ok (.aload_n 0, 1) := by decide +kernel
theorem d_Disk_start_69 : decode b_Disk_start 69 = .ok (.getfield 13, 3) := by decide +kernel
theorem d_Disk_start_72 : decode b_Disk_start 72 = .ok (.iload_n 3, 1) := by decide +kernel
theorem d_Disk_start_73 : decode b_Disk_start 73 = .ok (.aload_n 0, 1) := by decide +kernel
theorem d_Disk_start_74 : decode b_Disk_start 74 = .ok (.getfield 9, 3) := by decide +kernel
theorem d_Disk_start_77 : decode b_Disk_start 77 = .ok (.iload_n 3, 1) := by decide +kernel
theorem d_Disk_start_78 : decode b_Disk_start 78 = .ok (.invokestatic 37, 3) := by decide +kernel
theorem d_Disk_start_81 : decode b_Disk_start 81 = .ok (.aload_n 0, 1) := by decide +kernel
theorem d_Disk_start_82 : decode b_Disk_start 82 = .ok (.getfield 19, 3) := by decide +kernel
theorem d_Disk_start_85 : decode b_Disk_start 85 = .ok (.iload_n 3, 1) := by decide +kernel
theorem d_Disk_start_86 : decode b_Disk_start 86 = .ok (.iconst 0, 1) := by decide +kernel
theorem d_Disk_start_87 : decode b_Disk_start 87 = .ok (.bastore, 1) := by decide +kernel
theorem d_Disk_start_88 : decode b_Disk_start 88 = .ok (.iinc 3 1, 3) := by decide +kernel
theorem d_Disk_start_91 : decode b_Disk_start 91 = .ok (.goto (-29), 3) := by decide +kernel
theorem d_Disk_start_94 : decode b_Disk_start 94 = .ok (.iconst 1, 1) := by decide +kernel
theorem d_Disk_start_95 : decode b_Disk_start 95 = .ok (.ireturn, 1) := by decide +kernel
end
section
theorem d_Log_init_0 : decode b_Log_init 0 = .ok (.aload_n 0, 1) := by decide +kernel
theorem d_Log_init_1 : decode b_Log_init 1 = .ok (.invokespecial 1, 3) := by decide +kernel
theorem d_Log_init_4 : decode b_Log_init 4 = .ok (.aload_n 0, 1) := by decide +kernel
theorem d_Log_init_5 : decode b_Log_init 5 = .ok (.new 7, 3) := by decide +kernel
theorem d_Log_init_8 : decode b_Log_init 8 = .ok (.dup, 1) := by decide +kernel
theorem d_Log_init_9 : decode b_Log_init 9 = .ok (.invokespecial 9, 3) := by decide +kernel
theorem d_Log_init_12 : decode b_Log_init 12 = .ok (.putfield 10, 3) := by decide +kernel
theorem d_Log_init_15 : decode b_Log_init 15 = .ok (.return_, 1) := by decide +kernel
theorem d_Log_is_0 : decode b_Log_is 0 = .ok (.iload_n 0, 1) := by decide +kernel
theorem d_Log_is_1 : decode b_Log_is 1 = .ok (.ifCond .lt 23, 3) := by decide +kernel
theorem d_Log_is_4 : decode b_Log_is 4 = .ok (.iload_n 0, 1) := by decide +kernel
theorem d_Log_is_5 : decode b_Log_is 5 = .ok (.bipush 24, 2) := by decide +kernel
theorem d_Log_is_7 : decode b_Log_is 7 = .ok (.if_icmp .ge 17, 3) := by decide +kernel
theorem d_Log_is_10 : decode b_Log_is 10 = .ok (.iload_n 1, 1) := by decide +kernel
theorem d_Log_is_11 : decode b_Log_is 11 = .ok (.ifCond .lt 13, 3) := by decide +kernel
theorem d_Log_is_14 : decode b_Log_is 14 = .ok (.iload_n 1, 1) := by decide +kernel
theorem d_Log_is_15 : decode b_Log_is 15 = .ok (.bipush 16, 2) := by decide +kernel
theorem d_Log_is_17 : decode b_Log_is 17 = .ok (.if_icmp .ge 7, 3) := by decide +kernel
theorem d_Log_is_20 : decode b_Log_is 20 = .ok (.iconst 1, 1) := by decide +kernel
theorem d_Log_is_21 : decode b_Log_is 21 = .ok (.goto 4, 3) := by decide +kernel
theorem d_Log_is_24 : decode b_Log_is 24 = .ok (.iconst 0, 1) := by decide +kernel
theorem d_Log_is_25 : decode b_Log_is 25 = .ok (.ireturn, 1) := by decide +kernel
theorem d_Log_write_0 : decode b_Log_write 0 = .ok (.aload_n 0, 1) := by decide +kernel
theorem d_Log_write_1 : decode b_Log_write 1 = .ok (.getfield 10, 3) := by decide +kernel
theorem d_Log_write_4 : decode b_Log_write 4 = .ok (.getfield 16, 3) := by decide +kernel
theorem d_Log_write_7 : decode b_Log_write 7 = .ok (.ifCond .eq 11, 3) := by decide +kernel
theorem d_Log_write_10 : decode b_Log_write 10 = .ok (.iload_n 1, 1) := by decide +kernel
theorem d_Log_write_11 : decode b_Log_write 11 = .ok (.iload_n 2, 1) := by decide +kernel
theorem d_Log_write_12 : decode b_Log_write 12 = .ok (.invokestatic 20, 3) := by decide +kernel
theorem d_Log_write_15 : decode b_Log_write 15 = .ok (.ifCond .ne 5, 3) := by decide +kernel
theorem d_Log_write_18 : decode b_Log_write 18 = .ok (.iconst 0, 1) := by decide +kernel
theorem d_Log_write_19 : decode b_Log_write 19 = .ok (.ireturn, 1) := by decide +kernel
theorem d_Log_write_20 : decode b_Log_write 20 = .ok (.aload_n 0, 1) := by decide +kernel
theorem d_Log_write_21 : decode b_Log_write 21 = .ok (.getfield 10, 3) := by decide +kernel
theorem d_Log_write_24 : decode b_Log_write 24 = .ok (.getfield 24, 3) := by decide +kernel
theorem d_Log_write_27 : decode b_Log_write 27 = .ok (.iload_n 1, 1) := by decide +kernel
theorem d_Log_write_28 : decode b_Log_write 28 = .ok (.bipush 16, 2) := by decide +kernel
theorem d_Log_write_30 : decode b_Log_write 30 = .ok (.imul, 1) := by decide +kernel
theorem d_Log_write_31 : decode b_Log_write 31 = .ok (.iload_n 2, 1) := by decide +kernel
theorem d_Log_write_32 : decode b_Log_write 32 = .ok (.iadd, 1) := by decide +kernel
theorem d_Log_write_33 : decode b_Log_write 33 = .ok (.iload_n 3, 1) := by decide +kernel
theorem d_Log_write_34 : decode b_Log_write 34 = .ok (.i2b, 1) := by decide +kernel
theorem d_Log_write_35 : decode b_Log_write 35 = .ok (.bastore, 1) := by decide +kernel
theorem d_Log_write_36 : decode b_Log_write 36 = .ok (.aload_n 0, 1) := by decide +kernel
theorem d_Log_write_37 : decode b_Log_write 37 = .ok (.getfield 10, 3) := by decide +kernel
theorem d_Log_write_40 : decode b_Log_write 40 = .ok (.iload_n 1, 1) := by decide +kernel
theorem d_Log_write_41 : decode b_Log_write 41 = .ok (.invokevirtual 28, 3) := by decide +kernel
theorem d_Log_write_44 : decode b_Log_write 44 = .ok (.iconst 1, 1) := by decide +kernel
theorem d_Log_write_45 : decode b_Log_write 45 = .ok (.ireturn, 1) := by decide +kernel
theorem d_Log_read_0 : decode b_Log_read 0 = .ok (.aload_n 0, 1) := by decide +kernel
theorem d_Log_read_1 : decode b_Log_read 1 = .ok (.getfield 10, 3) := by decide +kernel
theorem d_Log_read_4 : decode b_Log_read 4 = .ok (.getfield 16, 3) := by decide +kernel
theorem d_Log_read_7 : decode b_Log_read 7 = .ok (.ifCond .eq 32, 3) := by decide +kernel
theorem d_Log_read_10 : decode b_Log_read 10 = .ok (.iload_n 1, 1) := by decide +kernel
theorem d_Log_read_11 : decode b_Log_read 11 = .ok (.iload_n 2, 1) := by decide +kernel
theorem d_Log_read_12 : decode b_Log_read 12 = .ok (.invokestatic 20, 3) := by decide +kernel
theorem d_Log_read_15 : decode b_Log_read 15 = .ok (.ifCond .eq 24, 3) := by decide +kernel
theorem d_Log_read_18 : decode b_Log_read 18 = .ok (.aload_n 0, 1) := by decide +kernel
theorem d_Log_read_19 : decode b_Log_read 19 = .ok (.getfield 10, 3) := by decide +kernel
theorem d_Log_read_22 : decode b_Log_read 22 = .ok (.getfield 24, 3) := by decide +kernel
theorem d_Log_read_25 : decode b_Log_read 25 = .ok (.iload_n 1, 1) := by decide +kernel
theorem d_Log_read_26 : decode b_Log_read 26 = .ok (.bipush 16, 2) := by decide +kernel
theorem d_Log_read_28 : decode b_Log_read 28 = .ok (.imul, 1) := by decide +kernel
theorem d_Log_read_29 : decode b_Log_read 29 = .ok (.iload_n 2, 1) := by decide +kernel
theorem d_Log_read_30 : decode b_Log_read 30 = .ok (.iadd, 1) := by decide +kernel
theorem d_Log_read_31 : decode b_Log_read 31 = .ok (.baload, 1) := by decide +kernel
theorem d_Log_read_32 : decode b_Log_read 32 = .ok (.sipush 255, 3) := by decide +kernel
theorem d_Log_read_35 : decode b_Log_read 35 = .ok (.iand, 1) := by decide +kernel
theorem d_Log_read_36 : decode b_Log_read 36 = .ok (.goto 4, 3) := by decide +kernel
theorem d_Log_read_39 : decode b_Log_read 39 = .ok (.iconst (-1), 1) := by decide +kernel
theorem d_Log_read_40 : decode b_Log_read 40 = .ok (.ireturn, 1) := by decide +kernel
theorem d_Log_disk_0 : decode b_Log_disk 0 = .ok (.iload_n 1, 1) := by decide +kernel
theorem d_Log_disk_1 : decode b_Log_disk 1 = .ok (.iload_n 2, 1) := by decide +kernel
theorem d_Log_disk_2 : decode b_Log_disk 2 = .ok (.invokestatic 20, 3) := by decide +kernel
theorem d_Log_disk_5 : decode b_Log_disk 5 = .ok (.ifCond .eq 24, 3) := by decide +kernel
theorem d_Log_disk_8 : decode b_Log_disk 8 = .ok (.aload_n 0, 1) := by decide +kernel
theorem d_Log_disk_9 : decode b_Log_disk 9 = .ok (.getfield 10, 3) := by decide +kernel
theorem d_Log_disk_12 : decode b_Log_disk 12 = .ok (.getfield 32, 3) := by decide +kernel
theorem d_Log_disk_15 : decode b_Log_disk 15 = .ok (.iload_n 1, 1) := by decide +kernel
theorem d_Log_disk_16 : decode b_Log_disk 16 = .ok (.bipush 16, 2) := by decide +kernel
theorem d_Log_disk_18 : decode b_Log_disk 18 = .ok (.imul, 1) := by decide +kernel
theorem d_Log_disk_19 : decode b_Log_disk 19 = .ok (.iload_n 2, 1) := by decide +kernel
theorem d_Log_disk_20 : decode b_Log_disk 20 = .ok (.iadd, 1) := by decide +kernel
theorem d_Log_disk_21 : decode b_Log_disk 21 = .ok (.baload, 1) := by decide +kernel
theorem d_Log_disk_22 : decode b_Log_disk 22 = .ok (.sipush 255, 3) := by decide +kernel
theorem d_Log_disk_25 : decode b_Log_disk 25 = .ok (.iand, 1) := by decide +kernel
theorem d_Log_disk_26 : decode b_Log_disk 26 = .ok (.goto 4, 3) := by decide +kernel
theorem d_Log_disk_29 : decode b_Log_disk 29 = .ok (.iconst (-1), 1) := by decide +kernel
theorem d_Log_disk_30 : decode b_Log_disk 30 = .ok (.ireturn, 1) := by decide +kernel
theorem d_Log_dirty_0 : decode b_Log_dirty 0 = .ok (.aload_n 0, 1) := by decide +kernel
theorem d_Log_dirty_1 : decode b_Log_dirty 1 = .ok (.getfield 10, 3) := by decide +kernel
theorem d_Log_dirty_4 : decode b_Log_dirty 4 = .ok (.getfield 16, 3) := by decide +kernel
theorem d_Log_dirty_7 : decode b_Log_dirty 7 = .ok (.ifCond .eq 27, 3) := by decide +kernel
theorem d_Log_dirty_10 : decode b_Log_dirty 10 = .ok (.iload_n 1, 1) := by decide +kernel
theorem d_Log_dirty_11 : decode b_Log_dirty 11 = .ok (.iconst 0, 1) := by decide +kernel
theorem d_Log_dirty_12 : decode b_Log_dirty 12 = .ok (.invokestatic 20, 3) := by decide +kernel
theorem d_Log_dirty_15 : decode b_Log_dirty 15 = .ok (.ifCond .eq 19, 3) := by decide +kernel
theorem d_Log_dirty_18 : decode b_Log_dirty 18 = .ok (.aload_n 0, 1) := by decide +kernel
theorem d_Log_dirty_19 : decode b_Log_dirty 19 = .ok (.getfield 10, 3) := by decide +kernel
theorem d_Log_dirty_22 : decode b_Log_dirty 22 = .ok (.getfield 35, 3) := by decide +kernel
theorem d_Log_dirty_25 : decode b_Log_dirty 25 = .ok (.iload_n 1, 1) := by decide +kernel
theorem d_Log_dirty_26 : decode b_Log_dirty 26 = .ok (.baload, 1) := by decide +kernel
theorem d_Log_dirty_27 : decode b_Log_dirty 27 = .ok (.ifCond .eq 7, 3) := by decide +kernel
theorem d_Log_dirty_30 : decode b_Log_dirty 30 = .ok (.iconst 1, 1) := by decide +kernel
theorem d_Log_dirty_31 : decode b_Log_dirty 31 = .ok (.goto 4, 3) := by decide +kernel
theorem d_Log_dirty_34 : decode b_Log_dirty 34 = .ok (.iconst 0, 1) := by decide +kernel
theorem d_Log_dirty_35 : decode b_Log_dirty 35 = .ok (.ireturn, 1) := by decide +kernel
theorem d_Log_commit_0 : decode b_Log_commit 0 = .ok (.aload_n 0, 1) := by decide +kernel
theorem d_Log_commit_1 : decode b_Log_commit 1 = .ok (.getfield 10, 3) := by decide +kernel
theorem d_Log_commit_4 : decode b_Log_commit 4 = .ok (.getfield 16, 3) := by decide +kernel
theorem d_Log_commit_7 : decode b_Log_commit 7 = .ok (.ifCond .eq 17, 3) := by decide +kernel
theorem d_Log_commit_10 : decode b_Log_commit 10 = .ok (.aload_n 0, 1) := by decide +kernel
theorem d_Log_commit_11 : decode b_Log_commit 11 = .ok (.getfield 10, 3) := by decide +kernel
theorem d_Log_commit_14 : decode b_Log_commit 14 = .ok (.invokevirtual 39, 3) := by decide +kernel
theorem d_Log_commit_17 : decode b_Log_commit 17 = .ok (.ifCond .eq 7, 3) := by decide +kernel
theorem d_Log_commit_20 : decode b_Log_commit 20 = .ok (.iconst 1, 1) := by decide +kernel
theorem d_Log_commit_21 : decode b_Log_commit 21 = .ok (.goto 4, 3) := by decide +kernel
theorem d_Log_commit_24 : decode b_Log_commit 24 = .ok (.iconst 0, 1) := by decide +kernel
theorem d_Log_commit_25 : decode b_Log_commit 25 = .ok (.ireturn, 1) := by decide +kernel
theorem d_Log_revert_0 : decode b_Log_revert 0 = .ok (.aload_n 0, 1) := by decide +kernel
theorem d_Log_revert_1 : decode b_Log_revert 1 = .ok (.getfield 10, 3) := by decide +kernel
theorem d_Log_revert_4 : decode b_Log_revert 4 = .ok (.getfield 16, 3) := by decide +kernel
theorem d_Log_revert_7 : decode b_Log_revert 7 = .ok (.ifCond .ne 5, 3) := by decide +kernel
theorem d_Log_revert_10 : decode b_Log_revert 10 = .ok (.iconst 0, 1) := by decide +kernel
theorem d_Log_revert_11 : decode b_Log_revert 11 = .ok (.ireturn, 1) := by decide +kernel
theorem d_Log_revert_12 : decode b_Log_revert 12 = .ok (.aload_n 0, 1) := by decide +kernel
theorem d_Log_revert_13 : decode b_Log_revert 13 = .ok (.getfield 10, 3) := by decide +kernel
theorem d_Log_revert_16 : decode b_Log_revert 16 = .ok (.invokevirtual 43, 3) := by decide +kernel
theorem d_Log_revert_19 : decode b_Log_revert 19 = .ok (.iconst 1, 1) := by decide +kernel
theorem d_Log_revert_20 : decode b_Log_revert 20 = .ok (.ireturn, 1) := by decide +kernel
theorem d_Log_cut_0 : decode b_Log_cut 0 = .ok (.aload_n 0, 1) := by decide +kernel
theorem d_Log_cut_1 : decode b_Log_cut 1 = .ok (.getfield 10, 3) := by decide +kernel
theorem d_Log_cut_4 : decode b_Log_cut 4 = .ok (.getfield 16, 3) := by decide +kernel
theorem d_Log_cut_7 : decode b_Log_cut 7 = .ok (.ifCond .eq 26, 3) := by decide +kernel
theorem d_Log_cut_10 : decode b_Log_cut 10 = .ok (.iload_n 1, 1) := by decide +kernel
theorem d_Log_cut_11 : decode b_Log_cut 11 = .ok (.iconst 1, 1) := by decide +kernel
theorem d_Log_cut_12 : decode b_Log_cut 12 = .ok (.if_icmp .lt 21, 3) := by decide +kernel
theorem d_Log_cut_15 : decode b_Log_cut 15 = .ok (.iload_n 1, 1) := by decide +kernel
theorem d_Log_cut_16 : decode b_Log_cut 16 = .ok (.sipush 1000, 3) := by decide +kernel
theorem d_Log_cut_19 : decode b_Log_cut 19 = .ok (.if_icmp .gt 14, 3) := by decide +kernel
theorem d_Log_cut_22 : decode b_Log_cut 22 = .ok (.iload_n 2, 1) := by decide +kernel
theorem d_Log_cut_23 : decode b_Log_cut 23 = .ok (.ifCond .lt 10, 3) := by decide +kernel
theorem d_Log_cut_26 : decode b_Log_cut 26 = .ok (.iload_n 2, 1) := by decide +kernel
theorem d_Log_cut_27 : decode b_Log_cut 27 = .ok (.sipush 1000, 3) := by decide +kernel
theorem d_Log_cut_30 : decode b_Log_cut 30 = .ok (.if_icmp .lt 5, 3) := by decide +kernel
theorem d_Log_cut_33 : decode b_Log_cut 33 = .ok (.iconst 0, 1) := by decide +kernel
theorem d_Log_cut_34 : decode b_Log_cut 34 = .ok (.ireturn, 1) := by decide +kernel
theorem d_Log_cut_35 : decode b_Log_cut 35 = .ok (.aload_n 0, 1) := by decide +kernel
theorem d_Log_cut_36 : decode b_Log_cut 36 = .ok (.getfield 10, 3) := by decide +kernel
theorem d_Log_cut_39 : decode b_Log_cut 39 = .ok (.iload_n 1, 1) := by decide +kernel
theorem d_Log_cut_40 : decode b_Log_cut 40 = .ok (.putfield 46, 3) := by decide +kernel
theorem d_Log_cut_43 : decode b_Log_cut 43 = .ok (.aload_n 0, 1) := by decide +kernel
theorem d_Log_cut_44 : decode b_Log_cut 44 = .ok (.getfield 10, 3) := by decide +kernel
theorem d_Log_cut_47 : decode b_Log_cut 47 = .ok (.iload_n 2, 1) := by decide +kernel
theorem d_Log_cut_48 : decode b_Log_cut 48 = .ok (.putfield 50, 3) := by decide +kernel
theorem d_Log_cut_51 : decode b_Log_cut 51 = .ok (.iconst 1, 1) := by decide +kernel
theorem d_Log_cut_52 : decode b_Log_cut 52 = .ok (.ireturn, 1) := by decide +kernel
theorem d_Log_start_0 : decode b_Log_start 0 = .ok (.aload_n 0, 1) := by decide +kernel
theorem d_Log_start_1 : decode b_Log_start 1 = .ok (.getfield 10, 3) := by decide +kernel
theorem d_Log_start_4 : decode b_Log_start 4 = .ok (.getfield 16, 3) := by decide +kernel
theorem d_Log_start_7 : decode b_Log_start 7 = .ok (.ifCond .ne 14, 3) := by decide +kernel
theorem d_Log_start_10 : decode b_Log_start 10 = .ok (.iload_n 1, 1) := by decide +kernel
theorem d_Log_start_11 : decode b_Log_start 11 = .ok (.ifCond .lt 10, 3) := by decide +kernel
theorem d_Log_start_14 : decode b_Log_start 14 = .ok (.iload_n 1, 1) := by decide +kernel
theorem d_Log_start_15 : decode b_Log_start 15 = .ok (.sipush 1000, 3) := by decide +kernel
theorem d_Log_start_18 : decode b_Log_start 18 = .ok (.if_icmp .le 5, 3) := by decide +kernel
theorem d_Log_start_21 : decode b_Log_start 21 = .ok (.iconst 0, 1) := by decide +kernel
theorem d_Log_start_22 : decode b_Log_start 22 = .ok (.ireturn, 1) := by decide +kernel
theorem d_Log_start_23 : decode b_Log_start 23 = .ok (.aload_n 0, 1) := by decide +kernel
theorem d_Log_start_24 : decode b_Log_start 24 = .ok (.getfield 10, 3) := by decide +kernel
theorem d_Log_start_27 : decode b_Log_start 27 = .ok (.iload_n 1, 1) := by decide +kernel
theorem d_Log_start_28 : decode b_Log_start 28 = .ok (.invokevirtual 53, 3) := by decide +kernel
theorem d_Log_start_31 : decode b_Log_start 31 = .ok (.ireturn, 1) := by decide +kernel
theorem d_Log_state_0 : decode b_Log_state 0 = .ok (.iload_n 1, 1) := by decide +kernel
theorem d_Log_state_1 : decode b_Log_state 1 = .ok (.ifCond .ne 21, 3) := by decide +kernel
theorem d_Log_state_4 : decode b_Log_state 4 = .ok (.aload_n 0, 1) := by decide +kernel
theorem d_Log_state_5 : decode b_Log_state 5 = .ok (.getfield 10, 3) := by decide +kernel
theorem d_Log_state_8 : decode b_Log_state 8 = .ok (.getfield 16, 3) := by decide +kernel
theorem d_Log_state_11 : decode b_Log_state 11 = .ok (.ifCond .eq 7, 3) := by decide +kernel
theorem d_Log_state_14 : decode b_Log_state 14 = .ok (.iconst 1, 1) := by decide +kernel
theorem d_Log_state_15 : decode b_Log_state 15 = .ok (.goto 46, 3) := by decide +kernel
theorem d_Log_state_18 : decode b_Log_state 18 = .ok (.iconst 0, 1) := by decide +kernel
theorem d_Log_state_19 : decode b_Log_state 19 = .ok (.goto 42, 3) := by decide +kernel
theorem d_Log_state_22 : decode b_Log_state 22 = .ok (.iload_n 1, 1) := by decide +kernel
theorem d_Log_state_23 : decode b_Log_state 23 = .ok (.iconst 1, 1) := by decide +kernel
theorem d_Log_state_24 : decode b_Log_state 24 = .ok (.if_icmp .ne 21, 3) := by decide +kernel
theorem d_Log_state_27 : decode b_Log_state 27 = .ok (.aload_n 0, 1) := by decide +kernel
theorem d_Log_state_28 : decode b_Log_state 28 = .ok (.getfield 10, 3) := by decide +kernel
theorem d_Log_state_31 : decode b_Log_state 31 = .ok (.getfield 57, 3) := by decide +kernel
theorem d_Log_state_34 : decode b_Log_state 34 = .ok (.ifCond .eq 7, 3) := by decide +kernel
theorem d_Log_state_37 : decode b_Log_state 37 = .ok (.iconst 1, 1) := by decide +kernel
theorem d_Log_state_38 : decode b_Log_state 38 = .ok (.goto 23, 3) := by decide +kernel
theorem d_Log_state_41 : decode b_Log_state 41 = .ok (.iconst 0, 1) := by decide +kernel
theorem d_Log_state_42 : decode b_Log_state 42 = .ok (.goto 19, 3) := by decide +kernel
theorem d_Log_state_45 : decode b_Log_state 45 = .ok (.iload_n 1, 1) := by decide +kernel
theorem d_Log_state_46 : decode b_Log_state 46 = .ok (.iconst 2, 1) := by decide +kernel
theorem d_Log_state_47 : decode b_Log_state 47 = .ok (.if_icmp .ne 13, 3) := by decide +kernel
theorem d_Log_state_50 : decode b_Log_state 50 = .ok (.aload_n 0, 1) := by decide +kernel
theorem d_Log_state_51 : decode b_Log_state 51 = .ok (.getfield 10, 3) := by decide +kernel
theorem d_Log_state_54 : decode b_Log_state 54 = .ok (.getfield 60, 3) := by decide +kernel
theorem d_Log_state_57 : decode b_Log_state 57 = .ok (.goto 4, 3) := by decide +kernel
theorem d_Log_state_60 : decode b_Log_state 60 = .ok (.iconst (-1), 1) := by decide +kernel
theorem d_Log_state_61 : decode b_Log_state 61 = .ok (.ireturn, 1) := by decide +kernel
end
section
theorem d_Model_init_0 : decode b_Model_init 0 = .ok (.aload_n 0, 1) := by decide +kernel
theorem d_Model_init_1 : decode b_Model_init 1 = .ok (.invokespecial 1, 3) := by decide +kernel
theorem d_Model_init_4 : decode b_Model_init 4 = .ok (.aload_n 0, 1) := by decide +kernel
theorem d_Model_init_5 : decode b_Model_init 5 = .ok (.sipush 384, 3) := by decide +kernel
theorem d_Model_init_8 : decode b_Model_init 8 = .ok (.newarray .byte, 2) := by decide +kernel
theorem d_Model_init_10 : decode b_Model_init 10 = .ok (.putfield 7, 3) := by decide +kernel
theorem d_Model_init_13 : decode b_Model_init 13 = .ok (.aload_n 0, 1) := by decide +kernel
theorem d_Model_init_14 : decode b_Model_init 14 = .ok (.sipush 384, 3) := by decide +kernel
theorem d_Model_init_17 : decode b_Model_init 17 = .ok (.newarray .byte, 2) := by decide +kernel
theorem d_Model_init_19 : decode b_Model_init 19 = .ok (.putfield 13, 3) := by decide +kernel
theorem d_Model_init_22 : decode b_Model_init 22 = .ok (.aload_n 0, 1) := by decide +kernel
theorem d_Model_init_23 : decode b_Model_init 23 = .ok (.sipush 384, 3) := by decide +kernel
theorem d_Model_init_26 : decode b_Model_init 26 = .ok (.newarray .byte, 2) := by decide +kernel
theorem d_Model_init_28 : decode b_Model_init 28 = .ok (.putfield 16, 3) := by decide +kernel
theorem d_Model_init_31 : decode b_Model_init 31 = .ok (.aload_n 0, 1) := by decide +kernel
theorem d_Model_init_32 : decode b_Model_init 32 = .ok (.bipush 24, 2) := by decide +kernel
theorem d_Model_init_34 : decode b_Model_init 34 = .ok (.newarray .boolean, 2) := by decide +kernel
theorem d_Model_init_36 : decode b_Model_init 36 = .ok (.putfield 19, 3) := by decide +kernel
theorem d_Model_init_39 : decode b_Model_init 39 = .ok (.aload_n 0, 1) := by decide +kernel
theorem d_Model_init_40 : decode b_Model_init 40 = .ok (.bipush 24, 2) := by decide +kernel
theorem d_Model_init_42 : decode b_Model_init 42 = .ok (.newarray .boolean, 2) := by decide +kernel
theorem d_Model_init_44 : decode b_Model_init 44 = .ok (.putfield 23, 3) := by decide +kernel
theorem d_Model_init_47 : decode b_Model_init 47 = .ok (.return_, 1) := by decide +kernel
theorem d_Model_in_0 : decode b_Model_in 0 = .ok (.iload_n 0, 1) := by decide +kernel
theorem d_Model_in_1 : decode b_Model_in 1 = .ok (.iload_n 1, 1) := by decide +kernel
theorem d_Model_in_2 : decode b_Model_in 2 = .ok (.if_icmp .lt 12, 3) := by decide +kernel
theorem d_Model_in_5 : decode b_Model_in 5 = .ok (.iload_n 0, 1) := by decide +kernel
theorem d_Model_in_6 : decode b_Model_in 6 = .ok (.iload_n 2, 1) := by decide +kernel
theorem d_Model_in_7 : decode b_Model_in 7 = .ok (.if_icmp .gt 7, 3) := by decide +kernel
theorem d_Model_in_10 : decode b_Model_in 10 = .ok (.iconst 1, 1) := by decide +kernel
theorem d_Model_in_11 : decode b_Model_in 11 = .ok (.goto 4, 3) := by decide +kernel
theorem d_Model_in_14 : decode b_Model_in 14 = .ok (.iconst 0, 1) := by decide +kernel
theorem d_Model_in_15 : decode b_Model_in 15 = .ok (.ireturn, 1) := by decide +kernel
theorem d_Model_isPlace_0 : decode b_Model_isPlace 0 = .ok (.iload_n 0, 1) := by decide +kernel
theorem d_Model_isPlace_1 : decode b_Model_isPlace 1 = .ok (.iconst 0, 1) := by decide +kernel
theorem d_Model_isPlace_2 : decode b_Model_isPlace 2 = .ok (.bipush 23, 2) := by decide +kernel
theorem d_Model_isPlace_4 : decode b_Model_isPlace 4 = .ok (.invokestatic 26, 3) := by decide +kernel
theorem d_Model_isPlace_7 : decode b_Model_isPlace 7 = .ok (.ifCond .eq 17, 3) := by decide +kernel
theorem d_Model_isPlace_10 : decode b_Model_isPlace 10 = .ok (.iload_n 1, 1) := by decide +kernel
theorem d_Model_isPlace_11 : decode b_Model_isPlace 11 = .ok (.iconst 0, 1) := by decide +kernel
theorem d_Model_isPlace_12 : decode b_Model_isPlace 12 = .ok (.bipush 15, 2) := by decide +kernel
theorem d_Model_isPlace_14 : decode b_Model_isPlace 14 = .ok (.invokestatic 26, 3) := by decide +kernel
theorem d_Model_isPlace_17 : decode b_Model_isPlace 17 = .ok (.ifCond .eq 7, 3) := by decide +kernel
theorem d_Model_isPlace_20 : decode b_Model_isPlace 20 = .ok (.iconst 1, 1) := by decide +kernel
theorem d_Model_isPlace_21 : decode b_Model_isPlace 21 = .ok (.goto 4, 3) := by decide +kernel
theorem d_Model_isPlace_24 : decode b_Model_isPlace 24 = .ok (.iconst 0, 1) := by decide +kernel
theorem d_Model_isPlace_25 : decode b_Model_isPlace 25 = .ok (.ireturn, 1) := by decide +kernel
theorem d_Model_write_0 : decode b_Model_write 0 = .ok (.aload_n 0, 1) := by decide +kernel
theorem d_Model_write_1 : decode b_Model_write 1 = .ok (.getfield 30, 3) := by decide +kernel
theorem d_Model_write_4 : decode b_Model_write 4 = .ok (.ifCond .ne 11, 3) := by decide +kernel
theorem d_Model_write_7 : decode b_Model_write 7 = .ok (.iload_n 1, 1) := by decide +kernel
theorem d_Model_write_8 : decode b_Model_write 8 = .ok (.iload_n 2, 1) := by decide +kernel
theorem d_Model_write_9 : decode b_Model_write 9 = .ok (.invokestatic 34, 3) := by decide +kernel
theorem d_Model_write_12 : decode b_Model_write 12 = .ok (.ifCond .ne 5, 3) := by decide +kernel
theorem d_Model_write_15 : decode b_Model_write 15 = .ok (.iconst 0, 1) := by decide +kernel
theorem d_Model_write_16 : decode b_Model_write 16 = .ok (.ireturn, 1) := by decide +kernel
theorem d_Model_write_17 : decode b_Model_write 17 = .ok (.aload_n 0, 1) := by decide +kernel
theorem d_Model_write_18 : decode b_Model_write 18 = .ok (.getfield 7, 3) := by decide +kernel
theorem d_Model_write_21 : decode b_Model_write 21 = .ok (.bipush 16, 2) := by decide +kernel
theorem d_Model_write_23 : decode b_Model_write 23 = .ok (.iload_n 1, 1) := by decide +kernel
theorem d_Model_write_24 : decode b_Model_write 24 = .ok (.imul, 1) := by decide +kernel
theorem d_Model_write_25 : decode b_Model_write 25 = .ok (.iload_n 2, 1) := by decide +kernel
theorem d_Model_write_26 : decode b_Model_write 26 = .ok (.iadd, 1) := by decide +kernel
theorem d_Model_write_27 : decode b_Model_write 27 = .ok (.iload_n 3, 1) := by decide +kernel
theorem d_Model_write_28 : decode b_Model_write 28 = .ok (.i2b, 1) := by decide +kernel
theorem d_Model_write_29 : decode b_Model_write 29 = .ok (.bastore, 1) := by decide +kernel
theorem d_Model_write_30 : decode b_Model_write 30 = .ok (.aload_n 0, 1) := by decide +kernel
theorem d_Model_write_31 : decode b_Model_write 31 = .ok (.getfield 19, 3) := by decide +kernel
theorem d_Model_write_34 : decode b_Model_write 34 = .ok (.iload_n 1, 1) := by decide +kernel
theorem d_Model_write_35 : decode b_Model_write 35 = .ok (.iconst 1, 1) := by decide +kernel
theorem d_Model_write_36 : decode b_Model_write 36 = .ok (.bastore, 1) := by decide +kernel
theorem d_Model_write_37 : decode b_Model_write 37 = .ok (.iconst 1, 1) := by decide +kernel
theorem d_Model_write_38 : decode b_Model_write 38 = .ok (.ireturn, 1) := by decide +kernel
theorem d_Model_read_0 : decode b_Model_read 0 = .ok (.aload_n 0, 1) := by decide +kernel
theorem d_Model_read_1 : decode b_Model_read 1 = .ok (.getfield 30, 3) := by decide +kernel
theorem d_Model_read_4 : decode b_Model_read 4 = .ok (.ifCond .ne 11, 3) := by decide +kernel
theorem d_Model_read_7 : decode b_Model_read 7 = .ok (.iload_n 1, 1) := by decide +kernel
theorem d_Model_read_8 : decode b_Model_read 8 = .ok (.iload_n 2, 1) := by decide +kernel
theorem d_Model_read_9 : decode b_Model_read 9 = .ok (.invokestatic 34, 3) := by decide +kernel
theorem d_Model_read_12 : decode b_Model_read 12 = .ok (.ifCond .ne 7, 3) := by decide +kernel
theorem d_Model_read_15 : decode b_Model_read 15 = .ok (.iconst (-1), 1) := by decide +kernel
theorem d_Model_read_16 : decode b_Model_read 16 = .ok (.goto 18, 3) := by decide +kernel
theorem d_Model_read_19 : decode b_Model_read 19 = .ok (.aload_n 0, 1) := by decide +kernel
theorem d_Model_read_20 : decode b_Model_read 20 = .ok (.getfield 7, 3) := by decide +kernel
theorem d_Model_read_23 : decode b_Model_read 23 = .ok (.bipush 16, 2) := by decide +kernel
theorem d_Model_read_25 : decode b_Model_read 25 = .ok (.iload_n 1, 1) := by decide +kernel
theorem d_Model_read_26 : decode b_Model_read 26 = .ok (.imul, 1) := by decide +kernel
theorem d_Model_read_27 : decode b_Model_read 27 = .ok (.iload_n 2, 1) := by decide +kernel
theorem d_Model_read_28 : decode b_Model_read 28 = .ok (.iadd, 1) := by decide +kernel
theorem d_Model_read_29 : decode b_Model_read 29 = .ok (.baload, 1) := by decide +kernel
theorem d_Model_read_30 : decode b_Model_read 30 = .ok (.sipush 255, 3) := by decide +kernel
theorem d_Model_read_33 : decode b_Model_read 33 = .ok (.iand, 1) := by decide +kernel
theorem d_Model_read_34 : decode b_Model_read 34 = .ok (.ireturn, 1) := by decide +kernel
theorem d_Model_disk_0 : decode b_Model_disk 0 = .ok (.iload_n 1, 1) := by decide +kernel
theorem d_Model_disk_1 : decode b_Model_disk 1 = .ok (.iload_n 2, 1) := by decide +kernel
theorem d_Model_disk_2 : decode b_Model_disk 2 = .ok (.invokestatic 34, 3) := by decide +kernel
theorem d_Model_disk_5 : decode b_Model_disk 5 = .ok (.ifCond .eq 21, 3) := by decide +kernel
theorem d_Model_disk_8 : decode b_Model_disk 8 = .ok (.aload_n 0, 1) := by decide +kernel
theorem d_Model_disk_9 : decode b_Model_disk 9 = .ok (.getfield 13, 3) := by decide +kernel
theorem d_Model_disk_12 : decode b_Model_disk 12 = .ok (.bipush 16, 2) := by decide +kernel
theorem d_Model_disk_14 : decode b_Model_disk 14 = .ok (.iload_n 1, 1) := by decide +kernel
theorem d_Model_disk_15 : decode b_Model_disk 15 = .ok (.imul, 1) := by decide +kernel
theorem d_Model_disk_16 : decode b_Model_disk 16 = .ok (.iload_n 2, 1) := by decide +kernel
theorem d_Model_disk_17 : decode b_Model_disk 17 = .ok (.iadd, 1) := by decide +kernel
theorem d_Model_disk_18 : decode b_Model_disk 18 = .ok (.baload, 1) := by decide +kernel
theorem d_Model_disk_19 : decode b_Model_disk 19 = .ok (.sipush 255, 3) := by decide +kernel
theorem d_Model_disk_22 : decode b_Model_disk 22 = .ok (.iand, 1) := by decide +kernel
theorem d_Model_disk_23 : decode b_Model_disk 23 = .ok (.goto 4, 3) := by decide +kernel
theorem d_Model_disk_26 : decode b_Model_disk 26 = .ok (.iconst (-1), 1) := by decide +kernel
theorem d_Model_disk_27 : decode b_Model_disk 27 = .ok (.ireturn, 1) := by decide +kernel
theorem d_Model_dirty_0 : decode b_Model_dirty 0 = .ok (.aload_n 0, 1) := by decide +kernel
theorem d_Model_dirty_1 : decode b_Model_dirty 1 = .ok (.getfield 30, 3) := by decide +kernel
theorem d_Model_dirty_4 : decode b_Model_dirty 4 = .ok (.ifCond .ne 26, 3) := by decide +kernel
theorem d_Model_dirty_7 : decode b_Model_dirty 7 = .ok (.iload_n 1, 1) := by decide +kernel
theorem d_Model_dirty_8 : decode b_Model_dirty 8 = .ok (.iconst 0, 1) := by decide +kernel
theorem d_Model_dirty_9 : decode b_Model_dirty 9 = .ok (.bipush 23, 2) := by decide +kernel
theorem d_Model_dirty_11 : decode b_Model_dirty 11 = .ok (.invokestatic 26, 3) := by decide +kernel
theorem d_Model_dirty_14 : decode b_Model_dirty 14 = .ok (.ifCond .eq 16, 3) := by decide +kernel
theorem d_Model_dirty_17 : decode b_Model_dirty 17 = .ok (.aload_n 0, 1) := by decide +kernel
theorem d_Model_dirty_18 : decode b_Model_dirty 18 = .ok (.getfield 19, 3) := by decide +kernel
theorem d_Model_dirty_21 : decode b_Model_dirty 21 = .ok (.iload_n 1, 1) := by decide +kernel
theorem d_Model_dirty_22 : decode b_Model_dirty 22 = .ok (.baload, 1) := by decide +kernel
theorem d_Model_dirty_23 : decode b_Model_dirty 23 = .ok (.ifCond .eq 7, 3) := by decide +kernel
theorem d_Model_dirty_26 : decode b_Model_dirty 26 = .ok (.iconst 1, 1) := by decide +kernel
theorem d_Model_dirty_27 : decode b_Model_dirty 27 = .ok (.goto 4, 3) := by decide +kernel
theorem d_Model_dirty_30 : decode b_Model_dirty 30 = .ok (.iconst 0, 1) := by decide +kernel
theorem d_Model_dirty_31 : decode b_Model_dirty 31 = .ok (.ireturn, 1) := by decide +kernel
theorem d_Model_copy_0 : decode b_Model_copy 0 = .ok (.bipush 16, 2) := by decide +kernel
theorem d_Model_copy_2 : decode b_Model_copy 2 = .ok (.iload_n 2, 1) := by decide +kernel
theorem d_Model_copy_3 : decode b_Model_copy 3 = .ok (.imul, 1) := by decide +kernel
theorem d_Model_copy_4 : decode b_Model_copy 4 = .ok (.istore_n 3, 1) := by decide +kernel
theorem d_Model_copy_5 : decode b_Model_copy 5 = .ok (.iload_n 3, 1) := by decide +kernel
theorem d_Model_copy_6 : decode b_Model_copy 6 = .ok (.bipush 16, 2) := by decide +kernel
theorem d_Model_copy_8 : decode b_Model_copy 8 = .ok (.iload_n 2, 1) := by decide +kernel
theorem d_Model_copy_9 : decode b_Model_copy 9 = .ok (.imul, 1) := by decide +kernel
theorem d_Model_copy_10 : decode b_Model_copy 10 = .ok (.bipush 16, 2) := by decide +kernel
theorem d_Model_copy_12 : decode b_Model_copy 12 = .ok (.iadd, 1) := by decide +kernel
theorem d_Model_copy_13 : decode b_Model_copy 13 = .ok (.if_icmp .ge 15, 3) := by decide +kernel
theorem d_Model_copy_16 : decode b_Model_copy 16 = .ok (.aload_n 1, 1) := by decide +kernel
theorem d_Model_copy_17 : decode b_Model_copy 17 = .ok (.iload_n 3, 1) := by decide +kernel
theorem d_Model_copy_18 : decode b_Model_copy 18 = .ok (.aload_n 0, 1) := by decide +kernel
theorem d_Model_copy_19 : decode b_Model_copy 19 = .ok (.iload_n 3, 1) := by decide +kernel
theorem d_Model_copy_20 : decode b_Model_copy 20 = .ok (.baload, 1) := by decide +kernel
theorem d_Model_copy_21 : decode b_Model_copy 21 = .ok (.bastore, 1) := by decide +kernel
theorem d_Model_copy_22 : decode b_Model_copy 22 = .ok (.iinc 3 1, 3) := by decide +kernel
theorem d_Model_copy_25 : decode b_Model_copy 25 = .ok (.goto (-20), 3) := by decide +kernel
theorem d_Model_copy_28 : decode b_Model_copy 28 = .ok (.return_, 1) := by decide +kernel
theorem d_Model_many_0 : decode b_Model_many 0 = .ok (.iconst 0, 1) := by decide +kernel
theorem d_Model_many_1 : decode b_Model_many 1 = .ok (.istore_n 1, 1) := by decide +kernel
theorem d_Model_many_2 : decode b_Model_many 2 = .ok (.iconst 0, 1) := by decide +kernel
theorem d_Model_many_3 : decode b_Model_many 3 = .ok (.istore_n 2, 1) := by decide +kernel
theorem d_Model_many_4 : decode b_Model_many 4 = .ok (.iload_n 2, 1) := by decide +kernel
theorem d_Model_many_5 : decode b_Model_many 5 = .ok (.bipush 24, 2) := by decide +kernel
theorem d_Model_many_7 : decode b_Model_many 7 = .ok (.if_icmp .ge 26, 3) := by decide +kernel
theorem d_Model_many_10 : decode b_Model_many 10 = .ok (.iload_n 1, 1) := by decide +kernel
theorem d_Model_many_11 : decode b_Model_many 11 = .ok (.aload_n 0, 1) := by decide +kernel
theorem d_Model_many_12 : decode b_Model_many 12 = .ok (.getfield 19, 3) := by decide +kernel
theorem d_Model_many_15 : decode b_Model_many 15 = .ok (.iload_n 2, 1) := by decide +kernel
theorem d_Model_many_16 : decode b_Model_many 16 = .ok (.baload, 1) := by decide +kernel
theorem d_Model_many_17 : decode b_Model_many 17 = .ok (.ifCond .eq 7, 3) := by decide +kernel
theorem d_Model_many_20 : decode b_Model_many 20 = .ok (.iconst 1, 1) := by decide +kernel
theorem d_Model_many_21 : decode b_Model_many 21 = .ok (.goto 4, 3) := by decide +kernel
theorem d_Model_many_24 : decode b_Model_many 24 = .ok (.iconst 0, 1) := by decide +kernel
theorem d_Model_many_25 : decode b_Model_many 25 = .ok (.iadd, 1) := by decide +kernel
theorem d_Model_many_26 : decode b_Model_many 26 = .ok (.istore_n 1, 1) := by decide +kernel
theorem d_Model_many_27 : decode b_Model_many 27 = .ok (.iinc 2 1, 3) := by decide +kernel
theorem d_Model_many_30 : decode b_Model_many 30 = .ok (.goto (-26), 3) := by decide +kernel
theorem d_Model_many_33 : decode b_Model_many 33 = .ok (.iload_n 1, 1) := by decide +kernel
theorem d_Model_many_34 : decode b_Model_many 34 = .ok (.ireturn, 1) := by decide +kernel
theorem d_Model_note_0 : decode b_Model_note 0 = .ok (.iconst 0, 1) := by decide +kernel
theorem d_Model_note_1 : decode b_Model_note 1 = .ok (.istore_n 1, 1) := by decide +kernel
theorem d_Model_note_2 : decode b_Model_note 2 = .ok (.iload_n 1, 1) := by decide +kernel
theorem d_Model_note_3 : decode b_Model_note 3 = .ok (.bipush 24, 2) := by decide +kernel
theorem d_Model_note_5 : decode b_Model_note 5 = .ok (.if_icmp .ge 42, 3) := by decide +kernel
theorem d_Model_note_8 : decode b_Model_note 8 = .ok (.aload_n 0, 1) := by decide +kernel
theorem d_Model_note_9 : decode b_Model_note 9 = .ok (.getfield 23, 3) := by decide +kernel
theorem d_Model_note_12 : decode b_Model_note 12 = .ok (.iload_n 1, 1) := by decide +kernel
theorem d_Model_note_13 : decode b_Model_note 13 = .ok (.aload_n 0, 1) := by decide +kernel
theorem d_Model_note_14 : decode b_Model_note 14 = .ok (.getfield 19, 3) := by decide +kernel
theorem d_Model_note_17 : decode b_Model_note 17 = .ok (.iload_n 1, 1) := by decide +kernel
theorem d_Model_note_18 : decode b_Model_note 18 = .ok (.baload, 1) := by decide +kernel
theorem d_Model_note_19 : decode b_Model_note 19 = .ok (.bastore, 1) := by decide +kernel
theorem d_Model_note_20 : decode b_Model_note 20 = .ok (.aload_n 0, 1) := by decide +kernel
theorem d_Model_note_21 : decode b_Model_note 21 = .ok (.getfield 19, 3) := by decide +kernel
theorem d_Model_note_24 : decode b_Model_note 24 = .ok (.iload_n 1, 1) := by decide +kernel
theorem d_Model_note_25 : decode b_Model_note 25 = .ok (.baload, 1) := by decide +kernel
theorem d_Model_note_26 : decode b_Model_note 26 = .ok (.ifCond .eq 15, 3) := by decide +kernel
theorem d_Model_note_29 : decode b_Model_note 29 = .ok (.aload_n 0, 1) := by decide +kernel
theorem d_Model_note_30 : decode b_Model_note 30 = .ok (.getfield 7, 3) := by decide +kernel
theorem d_Model_note_33 : decode b_Model_note 33 = .ok (.aload_n 0, 1) := by decide +kernel
theorem d_Model_note_34 : decode b_Model_note 34 = .ok (.getfield 16, 3) := by decide +kernel
theorem d_Model_note_37 : decode b_Model_note 37 = .ok (.iload_n 1, 1) := by decide +kernel
theorem d_Model_note_38 : decode b_Model_note 38 = .ok (.invokestatic 38, 3) := by decide +kernel
theorem d_Model_note_41 : decode b_Model_note 41 = .ok (.iinc 1 1, 3) := by decide +kernel
theorem d_Model_note_44 : decode b_Model_note 44 = .ok (.goto (-42), 3) := by decide +kernel
theorem d_Model_note_47 : decode b_Model_note 47 = .ok (.aload_n 0, 1) := by decide +kernel
theorem d_Model_note_48 : decode b_Model_note 48 = .ok (.iconst 1, 1) := by decide +kernel
theorem d_Model_note_49 : decode b_Model_note 49 = .ok (.putfield 42, 3) := by decide +kernel
theorem d_Model_note_52 : decode b_Model_note 52 = .ok (.return_, 1) := by decide +kernel
theorem d_Model_lay_0 : decode b_Model_lay 0 = .ok (.iconst 0, 1) := by decide +kernel
theorem d_Model_lay_1 : decode b_Model_lay 1 = .ok (.istore_n 2, 1) := by decide +kernel
theorem d_Model_lay_2 : decode b_Model_lay 2 = .ok (.iconst 0, 1) := by decide +kernel
theorem d_Model_lay_3 : decode b_Model_lay 3 = .ok (.istore_n 3, 1) := by decide +kernel
theorem d_Model_lay_4 : decode b_Model_lay 4 = .ok (.iload_n 3, 1) := by decide +kernel
theorem d_Model_lay_5 : decode b_Model_lay 5 = .ok (.bipush 24, 2) := by decide +kernel
theorem d_Model_lay_7 : decode b_Model_lay 7 = .ok (.if_icmp .ge 52, 3) := by decide +kernel
theorem d_Model_lay_10 : decode b_Model_lay 10 = .ok (.aload_n 0, 1) := by decide +kernel
theorem d_Model_lay_11 : decode b_Model_lay 11 = .ok (.getfield 23, 3) := by decide +kernel
theorem d_Model_lay_14 : decode b_Model_lay 14 = .ok (.iload_n 3, 1) := by decide +kernel
theorem d_Model_lay_15 : decode b_Model_lay 15 = .ok (.baload, 1) := by decide +kernel
theorem d_Model_lay_16 : decode b_Model_lay 16 = .ok (.ifCond .eq 20, 3) := by decide +kernel
theorem d_Model_lay_19 : decode b_Model_lay 19 = .ok (.iload_n 2, 1) := by decide +kernel
theorem d_Model_lay_20 : decode b_Model_lay 20 = .ok (.iload_n 1, 1) := by decide +kernel
theorem d_Model_lay_21 : decode b_Model_lay 21 = .ok (.if_icmp .ge 15, 3) := by decide +kernel
theorem d_Model_lay_24 : decode b_Model_lay 24 = .ok (.aload_n 0, 1) := by decide +kernel
theorem d_Model_lay_25 : decode b_Model_lay 25 = .ok (.getfield 16, 3) := by decide +kernel
theorem d_Model_lay_28 : decode b_Model_lay 28 = .ok (.aload_n 0, 1) := by decide +kernel
theorem d_Model_lay_29 : decode b_Model_lay 29 = .ok (.getfield 13, 3) := by decide +kernel
theorem d_Model_lay_32 : decode b_Model_lay 32 = .ok (.iload_n 3, 1) := by decide +kernel
theorem d_Model_lay_33 : decode b_Model_lay 33 = .ok (.invokestatic 38, 3) := by decide +kernel
theorem d_Model_lay_36 : decode b_Model_lay 36 = .ok (.iload_n 2, 1) := by decide +kernel
theorem d_Model_lay_37 : decode b_Model_lay 37 = .ok (.aload_n 0, 1) := by decide +kernel
theorem d_Model_lay_38 : decode b_Model_lay 38 = .ok (.getfield 23, 3) := by decide +kernel
theorem d_Model_lay_41 : decode b_Model_lay 41 = .ok (.iload_n 3, 1) := by decide +kernel
theorem d_Model_lay_42 : decode b_Model_lay 42 = .ok (.baload, 1) := by decide +kernel
theorem d_Model_lay_43 : decode b_Model_lay 43 = .ok (.ifCond .eq 7, 3) := by decide +kernel
theorem d_Model_lay_46 : decode b_Model_lay 46 = .ok (.iconst 1, 1) := by decide +kernel
theorem d_Model_lay_47 : decode b_Model_lay 47 = .ok (.goto 4, 3) := by decide +kernel
theorem d_Model_lay_50 : decode b_Model_lay 50 = .ok (.iconst 0, 1) := by decide +kernel
theorem d_Model_lay_51 : decode b_Model_lay 51 = .ok (.iadd, 1) := by decide +kernel
theorem d_Model_lay_52 : decode b_Model_lay 52 = .ok (.istore_n 2, 1) := by decide +kernel
theorem d_Model_lay_53 : decode b_Model_lay 53 = .ok (.iinc 3 1, 3) := by decide +kernel
theorem d_Model_lay_56 : decode b_Model_lay 56 = .ok (.goto (-52), 3) := by decide +kernel
theorem d_Model_lay_59 : decode b_Model_lay 59 = .ok (.return_, 1) := by decide +kernel
theorem d_Model_fresh_0 : decode b_Model_fresh 0 = .ok (.iconst 0, 1) := by decide +kernel
theorem d_Model_fresh_1 : decode b_Model_fresh 1 = .ok (.istore_n 1, 1) := by decide +kernel
theorem d_Model_fresh_2 : decode b_Model_fresh 2 = .ok (.iload_n 1, 1) := by decide +kernel
theorem d_Model_fresh_3 : decode b_Model_fresh 3 = .ok (.bipush 24, 2) := by decide +kernel
theorem d_Model_fresh_5 : decode b_Model_fresh 5 = .ok (.if_icmp .ge 28, 3) := by decide +kernel
theorem d_Model_fresh_8 : decode b_Model_fresh 8 = .ok (.aload_n 0, 1) := by decide +kernel
theorem d_Model_fresh_9 : decode b_Model_fresh 9 = .ok (.getfield 13, 3) := by decide +kernel
theorem d_Model_fresh_12 : decode b_Model_fresh 12 = .ok (.aload_n 0, 1) := by decide +kernel
theorem d_Model_fresh_13 : decode b_Model_fresh 13 = .ok (.getfield 7, 3) := by decide +kernel
theorem d_Model_fresh_16 : decode b_Model_fresh 16 = .ok (.iload_n 1, 1) := by decide +kernel
theorem d_Model_fresh_17 : decode b_Model_fresh 17 = .ok (.invokestatic 38, 3) := by decide +kernel
theorem d_Model_fresh_20 : decode b_Model_fresh 20 = .ok (.aload_n 0, 1) := by decide +kernel
theorem d_Model_fresh_21 : decode b_Model_fresh 21 = .ok (.getfield 19, 3) := by decide +kernel
theorem d_Model_fresh_24 : decode b_Model_fresh 24 = .ok (.iload_n 1, 1) := by decide +kernel
theorem d_Model_fresh_25 : decode b_Model_fresh 25 = .ok (.iconst 0, 1) := by decide +kernel
theorem d_Model_fresh_26 : decode b_Model_fresh 26 = .ok (.bastore, 1) := by decide +kernel
theorem d_Model_fresh_27 : decode b_Model_fresh 27 = .ok (.iinc 1 1, 3) := by decide +kernel
theorem d_Model_fresh_30 : decode b_Model_fresh 30 = .ok (.goto (-28), 3) := by decide +kernel
theorem d_Model_fresh_33 : decode b_Model_fresh 33 = .ok (.return_, 1) := by decide +kernel
theorem d_Model_commit_0 : decode b_Model_commit 0 = .ok (.aload_n 0, 1) := by decide +kernel
theorem d_Model_commit_1 : decode b_Model_commit 1 = .ok (.getfield 30, 3) := by decide +kernel
theorem d_Model_commit_4 : decode b_Model_commit 4 = .ok (.ifCond .eq 5, 3) := by decide +kernel
theorem d_Model_commit_7 : decode b_Model_commit 7 = .ok (.iconst 0, 1) := by decide +kernel
theorem d_Model_commit_8 : decode b_Model_commit 8 = .ok (.ireturn, 1) := by decide +kernel
theorem d_Model_commit_9 : decode b_Model_commit 9 = .ok (.aload_n 0, 1) := by decide +kernel
theorem d_Model_commit_10 : decode b_Model_commit 10 = .ok (.invokevirtual 45, 3) := by decide +kernel
theorem d_Model_commit_13 : decode b_Model_commit 13 = .ok (.istore_n 1, 1) := by decide +kernel
theorem d_Model_commit_14 : decode b_Model_commit 14 = .ok (.aload_n 0, 1) := by decide +kernel
theorem d_Model_commit_15 : decode b_Model_commit 15 = .ok (.iload_n 1, 1) := by decide +kernel
theorem d_Model_commit_16 : decode b_Model_commit 16 = .ok (.putfield 49, 3) := by decide +kernel
theorem d_Model_commit_19 : decode b_Model_commit 19 = .ok (.aload_n 0, 1) := by decide +kernel
theorem d_Model_commit_20 : decode b_Model_commit 20 = .ok (.aload_n 0, 1) := by decide +kernel
theorem d_Model_commit_21 : decode b_Model_commit 21 = .ok (.getfield 53, 3) := by decide +kernel
theorem d_Model_commit_24 : decode b_Model_commit 24 = .ok (.ifCond .le 12, 3) := by decide +kernel
theorem d_Model_commit_27 : decode b_Model_commit 27 = .ok (.aload_n 0, 1) := by decide +kernel
theorem d_Model_commit_28 : decode b_Model_commit 28 = .ok (.getfield 53, 3) := by decide +kernel
theorem d_Model_commit_31 : decode b_Model_commit 31 = .ok (.iconst 1, 1) := by decide +kernel
theorem d_Model_commit_32 : decode b_Model_commit 32 = .ok (.isub, 1) := by decide +kernel
theorem d_Model_commit_33 : decode b_Model_commit 33 = .ok (.goto 4, 3) := by decide +kernel
theorem d_Model_commit_36 : decode b_Model_commit 36 = .ok (.iconst (-1), 1) := by decide +kernel
theorem d_Model_commit_37 : decode b_Model_commit 37 = .ok (.putfield 53, 3) := by decide +kernel
theorem d_Model_commit_40 : decode b_Model_commit 40 = .ok (.aload_n 0, 1) := by decide +kernel
theorem d_Model_commit_41 : decode b_Model_commit 41 = .ok (.aload_n 0, 1) := by decide +kernel
theorem d_Model_commit_42 : decode b_Model_commit 42 = .ok (.getfield 53, 3) := by decide +kernel
theorem d_Model_commit_45 : decode b_Model_commit 45 = .ok (.ifCond .ne 7, 3) := by decide +kernel
theorem d_Model_commit_48 : decode b_Model_commit 48 = .ok (.iconst 1, 1) := by decide +kernel
theorem d_Model_commit_49 : decode b_Model_commit 49 = .ok (.goto 4, 3) := by decide +kernel
theorem d_Model_commit_52 : decode b_Model_commit 52 = .ok (.iconst 0, 1) := by decide +kernel
theorem d_Model_commit_53 : decode b_Model_commit 53 = .ok (.putfield 30, 3) := by decide +kernel
theorem d_Model_commit_56 : decode b_Model_commit 56 = .ok (.aload_n 0, 1) := by decide +kernel
theorem d_Model_commit_57 : decode b_Model_commit 57 = .ok (.getfield 30, 3) := by decide +kernel
theorem d_Model_commit_60 : decode b_Model_commit 60 = .ok (.ifCond .eq 15, 3) := by decide +kernel
theorem d_Model_commit_63 : decode b_Model_commit 63 = .ok (.aload_n 0, 1) := by decide +kernel
theorem d_Model_commit_64 : decode b_Model_commit 64 = .ok (.getfield 56, 3) := by decide +kernel
theorem d_Model_commit_67 : decode b_Model_commit 67 = .ok (.sipush 500, 3) := by decide +kernel
theorem d_Model_commit_70 : decode b_Model_commit 70 = .ok (.if_icmp .ge 5, 3) := by decide +kernel
theorem d_Model_commit_73 : decode b_Model_commit 73 = .ok (.iconst 0, 1) := by decide +kernel
theorem d_Model_commit_74 : decode b_Model_commit 74 = .ok (.ireturn, 1) := by decide +kernel
theorem d_Model_commit_75 : decode b_Model_commit 75 = .ok (.aload_n 0, 1) := by decide +kernel
theorem d_Model_commit_76 : decode b_Model_commit 76 = .ok (.invokevirtual 59, 3) := by decide +kernel
theorem d_Model_commit_79 : decode b_Model_commit 79 = .ok (.aload_n 0, 1) := by decide +kernel
theorem d_Model_commit_80 : decode b_Model_commit 80 = .ok (.aload_n 0, 1) := by decide +kernel
theorem d_Model_commit_81 : decode b_Model_commit 81 = .ok (.getfield 30, 3) := by decide +kernel
theorem d_Model_commit_84 : decode b_Model_commit 84 = .ok (.ifCond .eq 20, 3) := by decide +kernel
theorem d_Model_commit_87 : decode b_Model_commit 87 = .ok (.iload_n 1, 1) := by decide +kernel
theorem d_Model_commit_88 : decode b_Model_commit 88 = .ok (.aload_n 0, 1) := by decide +kernel
theorem d_Model_commit_89 : decode b_Model_commit 89 = .ok (.getfield 56, 3) := by decide +kernel
theorem d_Model_commit_92 : decode b_Model_commit 92 = .ok (.sipush 500, 3) := by decide +kernel
theorem d_Model_commit_95 : decode b_Model_commit 95 = .ok (.isub, 1) := by decide +kernel
theorem d_Model_commit_96 : decode b_Model_commit 96 = .ok (.imul, 1) := by decide +kernel
theorem d_Model_commit_97 : decode b_Model_commit 97 = .ok (.sipush 500, 3) := by decide +kernel
theorem d_Model_commit_100 : decode b_Model_commit 100 = .ok (.idiv, 1) := by decide +kernel
theorem d_Model_commit_101 : decode b_Model_commit 101 = .ok (.goto 4, 3) := by decide +kernel
theorem d_Model_commit_104 : decode b_Model_commit 104 = .ok (.iload_n 1, 1) := by decide +kernel
theorem d_Model_commit_105 : decode b_Model_commit 105 = .ok (.invokevirtual 62, 3) := by decide +kernel
theorem d_Model_commit_108 : decode b_Model_commit 108 = .ok (.aload_n 0, 1) := by decide +kernel
theorem d_Model_commit_109 : decode b_Model_commit 109 = .ok (.aload_n 0, 1) := by decide +kernel
theorem d_Model_commit_110 : decode b_Model_commit 110 = .ok (.getfield 30, 3) := by decide +kernel
theorem d_Model_commit_113 : decode b_Model_commit 113 = .ok (.putfield 42, 3) := by decide +kernel
theorem d_Model_commit_116 : decode b_Model_commit 116 = .ok (.iconst 0, 1) := by decide +kernel
theorem d_Model_commit_117 : decode b_Model_commit 117 = .ok (.istore_n 2, 1) := by decide +kernel
theorem d_Model_commit_118 : decode b_Model_commit 118 = .ok (.iload_n 2, 1) := by decide +kernel
theorem d_Model_commit_119 : decode b_Model_commit 119 = .ok (.bipush 24, 2) := by decide +kernel
theorem d_Model_commit_121 : decode b_Model_commit 121 = .ok (.if_icmp .ge 16, 3) := by decide +kernel
theorem d_Model_commit_124 : decode b_Model_commit 124 = .ok (.aload_n 0, 1) := by decide +kernel
theorem d_Model_commit_125 : decode b_Model_commit 125 = .ok (.getfield 19, 3) := by decide +kernel
theorem d_Model_commit_128 : decode b_Model_commit 128 = .ok (.iload_n 2, 1) := by decide +kernel
theorem d_Model_commit_129 : decode b_Model_commit 129 = .ok (.iconst 0, 1) := by decide +kernel
theorem d_Model_commit_130 : decode b_Model_commit 130 = .ok (.bastore, 1) := by decide +kernel
theorem d_Model_commit_131 : decode b_Model_commit 131 = .ok (.iinc 2 1, 3) := by decide +kernel
theorem d_Model_commit_134 : decode b_Model_commit 134 = .ok (.goto (-16), 3) := by decide +kernel
theorem d_Model_commit_137 : decode b_Model_commit 137 = .ok (.aload_n 0, 1) := by decide +kernel
theorem d_Model_commit_138 : decode b_Model_commit 138 = .ok (.getfield 30, 3) := by decide +kernel
theorem d_Model_commit_141 : decode b_Model_commit 141 = .ok (.ifCond .ne 7, 3) := by decide +kernel
theorem d_Model_commit_144 : decode b_Model_commit 144 = .ok (.iconst 1, 1) := by decide +kernel
theorem d_Model_commit_145 : decode b_Model_commit 145 = .ok (.goto 4, 3) := by decide +kernel
theorem d_Model_commit_148 : decode b_Model_commit 148 = .ok (.iconst 0, 1) := by decide +kernel
theorem d_Model_commit_149 : decode b_Model_commit 149 = .ok (.ireturn, 1) := by decide +kernel
theorem d_Model_revert_0 : decode b_Model_revert 0 = .ok (.aload_n 0, 1) := by decide +kernel
theorem d_Model_revert_1 : decode b_Model_revert 1 = .ok (.getfield 30, 3) := by decide +kernel
theorem d_Model_revert_4 : decode b_Model_revert 4 = .ok (.ifCond .eq 5, 3) := by decide +kernel
theorem d_Model_revert_7 : decode b_Model_revert 7 = .ok (.iconst 0, 1) := by decide +kernel
theorem d_Model_revert_8 : decode b_Model_revert 8 = .ok (.ireturn, 1) := by decide +kernel
theorem d_Model_revert_9 : decode b_Model_revert 9 = .ok (.aload_n 0, 1) := by decide +kernel
theorem d_Model_revert_10 : decode b_Model_revert 10 = .ok (.invokevirtual 66, 3) := by decide +kernel
theorem d_Model_revert_13 : decode b_Model_revert 13 = .ok (.iconst 1, 1) := by decide +kernel
theorem d_Model_revert_14 : decode b_Model_revert 14 = .ok (.ireturn, 1) := by decide +kernel
theorem d_Model_cut_0 : decode b_Model_cut 0 = .ok (.aload_n 0, 1) := by decide +kernel
theorem d_Model_cut_1 : decode b_Model_cut 1 = .ok (.getfield 30, 3) := by decide +kernel
theorem d_Model_cut_4 : decode b_Model_cut 4 = .ok (.ifCond .ne 25, 3) := by decide +kernel
theorem d_Model_cut_7 : decode b_Model_cut 7 = .ok (.iload_n 1, 1) := by decide +kernel
theorem d_Model_cut_8 : decode b_Model_cut 8 = .ok (.iconst 1, 1) := by decide +kernel
theorem d_Model_cut_9 : decode b_Model_cut 9 = .ok (.sipush 1000, 3) := by decide +kernel
theorem d_Model_cut_12 : decode b_Model_cut 12 = .ok (.invokestatic 26, 3) := by decide +kernel
theorem d_Model_cut_15 : decode b_Model_cut 15 = .ok (.ifCond .eq 14, 3) := by decide +kernel
theorem d_Model_cut_18 : decode b_Model_cut 18 = .ok (.iload_n 2, 1) := by decide +kernel
theorem d_Model_cut_19 : decode b_Model_cut 19 = .ok (.iconst 0, 1) := by decide +kernel
theorem d_Model_cut_20 : decode b_Model_cut 20 = .ok (.sipush 999, 3) := by decide +kernel
theorem d_Model_cut_23 : decode b_Model_cut 23 = .ok (.invokestatic 26, 3) := by decide +kernel
theorem d_Model_cut_26 : decode b_Model_cut 26 = .ok (.ifCond .ne 5, 3) := by decide +kernel
theorem d_Model_cut_29 : decode b_Model_cut 29 = .ok (.iconst 0, 1) := by decide +kernel
theorem d_Model_cut_30 : decode b_Model_cut 30 = .ok (.ireturn, 1) := by decide +kernel
theorem d_Model_cut_31 : decode b_Model_cut 31 = .ok (.aload_n 0, 1) := by decide +kernel
theorem d_Model_cut_32 : decode b_Model_cut 32 = .ok (.iload_n 1, 1) := by decide +kernel
theorem d_Model_cut_33 : decode b_Model_cut 33 = .ok (.putfield 53, 3) := by decide +kernel
theorem d_Model_cut_36 : decode b_Model_cut 36 = .ok (.aload_n 0, 1) := by decide +kernel
theorem d_Model_cut_37 : decode b_Model_cut 37 = .ok (.iload_n 2, 1) := by decide +kernel
theorem d_Model_cut_38 : decode b_Model_cut 38 = .ok (.putfield 56, 3) := by decide +kernel
theorem d_Model_cut_41 : decode b_Model_cut 41 = .ok (.iconst 1, 1) := by decide +kernel
theorem d_Model_cut_42 : decode b_Model_cut 42 = .ok (.ireturn, 1) := by decide +kernel
theorem d_Model_loggedMany_0 : decode b_Model_loggedMany 0 = .ok (.iconst 0, 1) := by decide +kernel
theorem d_Model_loggedMany_1 : decode b_Model_loggedMany 1 = .ok (.istore_n 1, 1) := by decide +kernel
theorem d_Model_loggedMany_2 : decode b_Model_loggedMany 2 = .ok (.iconst 0, 1) := by decide +kernel
theorem d_Model_loggedMany_3 : decode b_Model_loggedMany 3 = .ok (.istore_n 2, 1) := by decide +kernel
theorem d_Model_loggedMany_4 : decode b_Model_loggedMany 4 = .ok (.iload_n 2, 1) := by decide +kernel
theorem d_Model_loggedMany_5 : decode b_Model_loggedMany 5 = .ok (.bipush 24, 2) := by decide +kernel
theorem d_Model_loggedMany_7 : decode b_Model_loggedMany 7 = .ok (.if_icmp .ge 26, 3) := by decide +kernel
theorem d_Model_loggedMany_10 : decode b_Model_loggedMany 10 = .ok (.iload_n 1, 1) := by decide +kernel
theorem d_Model_loggedMany_11 : decode b_Model_loggedMany 11 = .ok (.aload_n 0, 1) := by decide +kernel
theorem d_Model_loggedMany_12 : decode b_Model_loggedMany 12 = .ok (.getfield 23, 3) := by decide +kernel
theorem d_Model_loggedMany_15 : decode b_Model_loggedMany 15 = .ok (.iload_n 2, 1) := by decide +kernel
theorem d_Model_loggedMany_16 : decode b_Model_loggedMany 16 = .ok (.baload, 1) := by decide +kernel
theorem d_Model_loggedMany_17 : decode b_Model_loggedMany 17 = .ok (.ifCond .eq 7, 3) := by decide +kernel
theorem d_Model_loggedMany_20 : decode b_Model_loggedMany 20 = .ok (.iconst 1, 1) := by decide +kernel
theorem d_Model_loggedMany_21 : decode b_Model_loggedMany 21 = .ok (.goto 4, 3) := by decide +kernel
theorem d_Model_loggedMany_24 : decode b_Model_loggedMany 24 = .ok (.iconst 0, 1) := by decide +kernel
theorem d_Model_loggedMany_25 : decode b_Model_loggedMany 25 = .ok (.iadd, 1) := by decide +kernel
theorem d_Model_loggedMany_26 : decode b_Model_loggedMany 26 = .ok (.istore_n 1, 1) := by decide +kernel
theorem d_Model_loggedMany_27 : decode b_Model_loggedMany 27 = .ok (.iinc 2 1, 3) := by decide +kernel
theorem d_Model_loggedMany_30 : decode b_Model_loggedMany 30 = .ok (.goto (-26), 3) := by decide +kernel
theorem d_Model_loggedMany_33 : decode b_Model_loggedMany 33 = .ok (.iload_n 1, 1) := by decide +kernel
theorem d_Model_loggedMany_34 : decode b_Model_loggedMany 34 = .ok (.ireturn, 1) := by decide +kernel
theorem d_Model_start_0 : decode b_Model_start 0 = .ok (.aload_n 0, 1) := by decide +kernel
theorem d_Model_start_1 : decode b_Model_start 1 = .ok (.getfield 30, 3) := by decide +kernel
theorem d_Model_start_4 : decode b_Model_start 4 = .ok (.ifCond .eq 14, 3) := by decide +kernel
theorem d_Model_start_7 : decode b_Model_start 7 = .ok (.iload_n 1, 1) := by decide +kernel
theorem d_Model_start_8 : decode b_Model_start 8 = .ok (.iconst 0, 1) := by decide +kernel
theorem d_Model_start_9 : decode b_Model_start 9 = .ok (.sipush 1000, 3) := by decide +kernel
theorem d_Model_start_12 : decode b_Model_start 12 = .ok (.invokestatic 26, 3) := by decide +kernel
theorem d_Model_start_15 : decode b_Model_start 15 = .ok (.ifCond .ne 5, 3) := by decide +kernel
theorem d_Model_start_18 : decode b_Model_start 18 = .ok (.iconst 0, 1) := by decide +kernel
theorem d_Model_start_19 : decode b_Model_start 19 = .ok (.ireturn, 1) := by decide +kernel
theorem d_Model_start_20 : decode b_Model_start 20 = .ok (.aload_n 0, 1) := by decide +kernel
theorem d_Model_start_21 : decode b_Model_start 21 = .ok (.getfield 42, 3) := by decide +kernel
theorem d_Model_start_24 : decode b_Model_start 24 = .ok (.ifCond .eq 17, 3) := by decide +kernel
theorem d_Model_start_27 : decode b_Model_start 27 = .ok (.aload_n 0, 1) := by decide +kernel
theorem d_Model_start_28 : decode b_Model_start 28 = .ok (.aload_n 0, 1) := by decide +kernel
theorem d_Model_start_29 : decode b_Model_start 29 = .ok (.invokevirtual 69, 3) := by decide +kernel
theorem d_Model_start_32 : decode b_Model_start 32 = .ok (.iload_n 1, 1) := by decide +kernel
theorem d_Model_start_33 : decode b_Model_start 33 = .ok (.imul, 1) := by decide +kernel
theorem d_Model_start_34 : decode b_Model_start 34 = .ok (.sipush 1000, 3) := by decide +kernel
theorem d_Model_start_37 : decode b_Model_start 37 = .ok (.idiv, 1) := by decide +kernel
theorem d_Model_start_38 : decode b_Model_start 38 = .ok (.invokevirtual 62, 3) := by decide +kernel
theorem d_Model_start_41 : decode b_Model_start 41 = .ok (.iload_n 1, 1) := by decide +kernel
theorem d_Model_start_42 : decode b_Model_start 42 = .ok (.sipush 1000, 3) := by decide +kernel
theorem d_Model_start_45 : decode b_Model_start 45 = .ok (.if_icmp .ge 5, 3) := by decide +kernel
theorem d_Model_start_48 : decode b_Model_start 48 = .ok (.iconst 0, 1) := by decide +kernel
theorem d_Model_start_49 : decode b_Model_start 49 = .ok (.ireturn, 1) := by decide +kernel
theorem d_Model_start_50 : decode b_Model_start 50 = .ok (.aload_n 0, 1) := by decide +kernel
theorem d_Model_start_51 : decode b_Model_start 51 = .ok (.iconst 0, 1) := by decide +kernel
theorem d_Model_start_52 : decode b_Model_start 52 = .ok (.putfield 42, 3) := by decide +kernel
theorem d_Model_start_55 : decode b_Model_start 55 = .ok (.aload_n 0, 1) := by decide +kernel
theorem d_Model_start_56 : decode b_Model_start 56 = .ok (.iconst 0, 1) := by decide +kernel
theorem d_Model_start_57 : decode b_Model_start 57 = .ok (.putfield 30, 3) := by decide +kernel
theorem d_Model_start_60 : decode b_Model_start 60 = .ok (.aload_n 0, 1) := by decide +kernel
theorem d_Model_start_61 : decode b_Model_start 61 = .ok (.invokevirtual 66, 3) := by decide +kernel
theorem d_Model_start_64 : decode b_Model_start 64 = .ok (.iconst 1, 1) := by decide +kernel
theorem d_Model_start_65 : decode b_Model_start 65 = .ok (.ireturn, 1) := by decide +kernel
theorem d_Model_state_0 : decode b_Model_state 0 = .ok (.iload_n 1, 1) := by decide +kernel
theorem d_Model_state_1 : decode b_Model_state 1 = .ok (.tableswitch 58 0 2 #[27, 40, 53], 27) := by decide +kernel
theorem d_Model_state_28 : decode b_Model_state 28 = .ok (.aload_n 0, 1) := by decide +kernel
theorem d_Model_state_29 : decode b_Model_state 29 = .ok (.getfield 30, 3) := by decide +kernel
theorem d_Model_state_32 : decode b_Model_state 32 = .ok (.ifCond .eq 7, 3) := by decide +kernel
theorem d_Model_state_35 : decode b_Model_state 35 = .ok (.iconst 0, 1) := by decide +kernel
theorem d_Model_state_36 : decode b_Model_state 36 = .ok (.goto 4, 3) := by decide +kernel
theorem d_Model_state_39 : decode b_Model_state 39 = .ok (.iconst 1, 1) := by decide +kernel
theorem d_Model_state_40 : decode b_Model_state 40 = .ok (.ireturn, 1) := by decide +kernel
theorem d_Model_state_41 : decode b_Model_state 41 = .ok (.aload_n 0, 1) := by decide +kernel
theorem d_Model_state_42 : decode b_Model_state 42 = .ok (.getfield 42, 3) := by decide +kernel
theorem d_Model_state_45 : decode b_Model_state 45 = .ok (.ifCond .eq 7, 3) := by decide +kernel
theorem d_Model_state_48 : decode b_Model_state 48 = .ok (.iconst 1, 1) := by decide +kernel
theorem d_Model_state_49 : decode b_Model_state 49 = .ok (.goto 4, 3) := by decide +kernel
theorem d_Model_state_52 : decode b_Model_state 52 = .ok (.iconst 0, 1) := by decide +kernel
theorem d_Model_state_53 : decode b_Model_state 53 = .ok (.ireturn, 1) := by decide +kernel
theorem d_Model_state_54 : decode b_Model_state 54 = .ok (.aload_n 0, 1) := by decide +kernel
theorem d_Model_state_55 : decode b_Model_state 55 = .ok (.getfield 49, 3) := by decide +kernel
theorem d_Model_state_58 : decode b_Model_state 58 = .ok (.ireturn, 1) := by decide +kernel
theorem d_Model_state_59 : decode b_Model_state 59 = .ok (.iconst (-1), 1) := by decide +kernel
theorem d_Model_state_60 : decode b_Model_state 60 = .ok (.ireturn, 1) := by decide +kernel
end
section
theorem d_law_0 : decode code 0 = .ok (.new 7, 3) := by decide +kernel
theorem d_law_3 : decode code 3 = .ok (.dup, 1) := by decide +kernel
theorem d_law_4 : decode code 4 = .ok (.invokespecial 9, 3) := by decide +kernel
theorem d_law_7 : decode code 7 = .ok (.astore_n 1, 1) := by decide +kernel
theorem d_law_8 : decode code 8 = .ok (.new 10, 3) := by decide +kernel
theorem d_law_11 : decode code 11 = .ok (.dup, 1) := by decide +kernel
theorem d_law_12 : decode code 12 = .ok (.invokespecial 12, 3) := by decide +kernel
theorem d_law_15 : decode code 15 = .ok (.astore_n 2, 1) := by decide +kernel
theorem d_law_16 : decode code 16 = .ok (.iconst 0, 1) := by decide +kernel
theorem d_law_17 : decode code 17 = .ok (.istore_n 3, 1) := by decide +kernel
theorem d_law_18 : decode code 18 = .ok (.iload_n 3, 1) := by decide +kernel
theorem d_law_19 : decode code 19 = .ok (.aload_n 0, 1) := by decide +kernel
theorem d_law_20 : decode code 20 = .ok (.arraylength, 1) := by decide +kernel
theorem d_law_21 : decode code 21 = .ok (.iconst 4, 1) := by decide +kernel
theorem d_law_22 : decode code 22 = .ok (.isub, 1) := by decide +kernel
theorem d_law_23 : decode code 23 = .ok (.if_icmp .gt 304, 3) := by decide +kernel
theorem d_law_26 : decode code 26 = .ok (.aload_n 0, 1) := by decide +kernel
theorem d_law_27 : decode code 27 = .ok (.iload_n 3, 1) := by decide +kernel
theorem d_law_28 : decode code 28 = .ok (.iaload, 1) := by decide +kernel
theorem d_law_29 : decode code 29 = .ok (.bipush 15, 2) := by decide +kernel
theorem d_law_31 : decode code 31 = .ok (.iand, 1) := by decide +kernel
theorem d_law_32 : decode code 32 = .ok (.tableswitch 289 0 8 #[52, 95, 128, 161, 184, 197, 210, 243, 266], 52) := by decide +kernel
theorem d_law_84 : decode code 84 = .ok (.aload_n 1, 1) := by decide +kernel
theorem d_law_85 : decode code 85 = .ok (.aload_n 0, 1) := by decide +kernel
theorem d_law_86 : decode code 86 = .ok (.iload_n 3, 1) := by decide +kernel
theorem d_law_87 : decode code 87 = .ok (.iconst 1, 1) := by decide +kernel
theorem d_law_88 : decode code 88 = .ok (.iadd, 1) := by decide +kernel
theorem d_law_89 : decode code 89 = .ok (.iaload, 1) := by decide +kernel
theorem d_law_90 : decode code 90 = .ok (.aload_n 0, 1) := by decide +kernel
theorem d_law_91 : decode code 91 = .ok (.iload_n 3, 1) := by decide +kernel
theorem d_law_92 : decode code 92 = .ok (.iconst 2, 1) := by decide +kernel
theorem d_law_93 : decode code 93 = .ok (.iadd, 1) := by decide +kernel
theorem d_law_94 : decode code 94 = .ok (.iaload, 1) := by decide +kernel
theorem d_law_95 : decode code 95 = .ok (.aload_n 0, 1) := by decide +kernel
theorem d_law_96 : decode code 96 = .ok (.iload_n 3, 1) := by decide +kernel
theorem d_law_97 : decode code 97 = .ok (.iconst 3, 1) := by decide +kernel
theorem d_law_98 : decode code 98 = .ok (.iadd, 1) := by decide +kernel
theorem d_law_99 : decode code 99 = .ok (.iaload, 1) := by decide +kernel
theorem d_law_100 : decode code 100 = .ok (.invokevirtual 13, 3) := by decide +kernel
theorem d_law_103 : decode code 103 = .ok (.aload_n 2, 1) := by decide +kernel
theorem d_law_104 : decode code 104 = .ok (.aload_n 0, 1) := by decide +kernel
theorem d_law_105 : decode code 105 = .ok (.iload_n 3, 1) := by decide +kernel
theorem d_law_106 : decode code 106 = .ok (.iconst 1, 1) := by decide +kernel
theorem d_law_107 : decode code 107 = .ok (.iadd, 1) := by decide +kernel
theorem d_law_108 : decode code 108 = .ok (.iaload, 1) := by decide +kernel
theorem d_law_109 : decode code 109 = .ok (.aload_n 0, 1) := by decide +kernel
theorem d_law_110 : decode code 110 = .ok (.iload_n 3, 1) := by decide +kernel
theorem d_law_111 : decode code 111 = .ok (.iconst 2, 1) := by decide +kernel
theorem d_law_112 : decode code 112 = .ok (.iadd, 1) := by decide +kernel
theorem d_law_113 : decode code 113 = .ok (.iaload, 1) := by decide +kernel
theorem d_law_114 : decode code 114 = .ok (.aload_n 0, 1) := by decide +kernel
theorem d_law_115 : decode code 115 = .ok (.iload_n 3, 1) := by decide +kernel
theorem d_law_116 : decode code 116 = .ok (.iconst 3, 1) := by decide +kernel
theorem d_law_117 : decode code 117 = .ok (.iadd, 1) := by decide +kernel
theorem d_law_118 : decode code 118 = .ok (.iaload, 1) := by decide +kernel
theorem d_law_119 : decode code 119 = .ok (.invokevirtual 17, 3) := by decide +kernel
theorem d_law_122 : decode code 122 = .ok (.if_icmp .eq 199, 3) := by decide +kernel
theorem d_law_125 : decode code 125 = .ok (.iconst 0, 1) := by decide +kernel
theorem d_law_126 : decode code 126 = .ok (.ireturn, 1) := by decide +kernel
theorem d_law_127 : decode code 127 = .ok (.aload_n 1, 1) := by decide +kernel
theorem d_law_128 : decode code 128 = .ok (.aload_n 0, 1) := by decide +kernel
theorem d_law_129 : decode code 129 = .ok (.iload_n 3, 1) := by decide +kernel
theorem d_law_130 : decode code 130 = .ok (.iconst 1, 1) := by decide +kernel
theorem d_law_131 : decode code 131 = .ok (.iadd, 1) := by decide +kernel
theorem d_law_132 : decode code 132 = .ok (.iaload, 1) := by decide +kernel
theorem d_law_133 : decode code 133 = .ok (.aload_n 0, 1) := by decide +kernel
theorem d_law_134 : decode code 134 = .ok (.iload_n 3, 1) := by decide +kernel
theorem d_law_135 : decode code 135 = .ok (.iconst 2, 1) := by decide +kernel
theorem d_law_136 : decode code 136 = .ok (.iadd, 1) := by decide +kernel
theorem d_law_137 : decode code 137 = .ok (.iaload, 1) := by decide +kernel
theorem d_law_138 : decode code 138 = .ok (.invokevirtual 18, 3) := by decide +kernel
theorem d_law_141 : decode code 141 = .ok (.aload_n 2, 1) := by decide +kernel
theorem d_law_142 : decode code 142 = .ok (.aload_n 0, 1) := by decide +kernel
theorem d_law_143 : decode code 143 = .ok (.iload_n 3, 1) := by decide +kernel
theorem d_law_144 : decode code 144 = .ok (.iconst 1, 1) := by decide +kernel
theorem d_law_145 : decode code 145 = .ok (.iadd, 1) := by decide +kernel
theorem d_law_146 : decode code 146 = .ok (.iaload, 1) := by decide +kernel
theorem d_law_147 : decode code 147 = .ok (.aload_n 0, 1) := by decide +kernel
theorem d_law_148 : decode code 148 = .ok (.iload_n 3, 1) := by decide +kernel
theorem d_law_149 : decode code 149 = .ok (.iconst 2, 1) := by decide +kernel
theorem d_law_150 : decode code 150 = .ok (.iadd, 1) := by decide +kernel
theorem d_law_151 : decode code 151 = .ok (.iaload, 1) := by decide +kernel
theorem d_law_152 : decode code 152 = .ok (.invokevirtual 22, 3) := by decide +kernel
theorem d_law_155 : decode code 155 = .ok (.if_icmp .eq 166, 3) := by decide +kernel
theorem d_law_158 : decode code 158 = .ok (.iconst 0, 1) := by decide +kernel
theorem d_law_159 : decode code 159 = .ok (.ireturn, 1) := by decide +kernel
theorem d_law_160 : decode code 160 = .ok (.aload_n 1, 1) := by decide +kernel
theorem d_law_161 : decode code 161 = .ok (.aload_n 0, 1) := by decide +kernel
theorem d_law_162 : decode code 162 = .ok (.iload_n 3, 1) := by decide +kernel
theorem d_law_163 : decode code 163 = .ok (.iconst 1, 1) := by decide +kernel
theorem d_law_164 : decode code 164 = .ok (.iadd, 1) := by decide +kernel
theorem d_law_165 : decode code 165 = .ok (.iaload, 1) := by decide +kernel
theorem d_law_166 : decode code 166 = .ok (.aload_n 0, 1) := by decide +kernel
theorem d_law_167 : decode code 167 = .ok (.iload_n 3, 1) := by decide +kernel
theorem d_law_168 : decode code 168 = .ok (.iconst 2, 1) := by decide +kernel
theorem d_law_169 : decode code 169 = .ok (.iadd, 1) := by decide +kernel
theorem d_law_170 : decode code 170 = .ok (.iaload, 1) := by decide +kernel
theorem d_law_171 : decode code 171 = .ok (.invokevirtual 23, 3) := by decide +kernel
theorem d_law_174 : decode code 174 = .ok (.aload_n 2, 1) := by decide +kernel
theorem d_law_175 : decode code 175 = .ok (.aload_n 0, 1) := by decide +kernel
theorem d_law_176 : decode code 176 = .ok (.iload_n 3, 1) := by decide +kernel
theorem d_law_177 : decode code 177 = .ok (.iconst 1, 1) := by decide +kernel
theorem d_law_178 : decode code 178 = .ok (.iadd, 1) := by decide +kernel
theorem d_law_179 : decode code 179 = .ok (.iaload, 1) := by decide +kernel
theorem d_law_180 : decode code 180 = .ok (.aload_n 0, 1) := by decide +kernel
theorem d_law_181 : decode code 181 = .ok (.iload_n 3, 1) := by decide +kernel
theorem d_law_182 : decode code 182 = .ok (.iconst 2, 1) := by decide +kernel
theorem d_law_183 : decode code 183 = .ok (.iadd, 1) := by decide +kernel
theorem d_law_184 : decode code 184 = .ok (.iaload, 1) := by decide +kernel
theorem d_law_185 : decode code 185 = .ok (.invokevirtual 26, 3) := by decide +kernel
theorem d_law_188 : decode code 188 = .ok (.if_icmp .eq 133, 3) := by decide +kernel
theorem d_law_191 : decode code 191 = .ok (.iconst 0, 1) := by decide +kernel
theorem d_law_192 : decode code 192 = .ok (.ireturn, 1) := by decide +kernel
theorem d_law_193 : decode code 193 = .ok (.aload_n 1, 1) := by decide +kernel
theorem d_law_194 : decode code 194 = .ok (.aload_n 0, 1) := by decide +kernel
theorem d_law_195 : decode code 195 = .ok (.iload_n 3, 1) := by decide +kernel
theorem d_law_196 : decode code 196 = .ok (.iconst 1, 1) := by decide +kernel
theorem d_law_197 : decode code 197 = .ok (.iadd, 1) := by decide +kernel
theorem d_law_198 : decode code 198 = .ok (.iaload, 1) := by decide +kernel
theorem d_law_199 : decode code 199 = .ok (.invokevirtual 27, 3) := by decide +kernel
theorem d_law_202 : decode code 202 = .ok (.aload_n 2, 1) := by decide +kernel
theorem d_law_203 : decode code 203 = .ok (.aload_n 0, 1) := by decide +kernel
theorem d_law_204 : decode code 204 = .ok (.iload_n 3, 1) := by decide +kernel
theorem d_law_205 : decode code 205 = .ok (.iconst 1, 1) := by decide +kernel
theorem d_law_206 : decode code 206 = .ok (.iadd, 1) := by decide +kernel
theorem d_law_207 : decode code 207 = .ok (.iaload, 1) := by decide +kernel
theorem d_law_208 : decode code 208 = .ok (.invokevirtual 31, 3) := by decide +kernel
theorem d_law_211 : decode code 211 = .ok (.if_icmp .eq 110, 3) := by decide +kernel
theorem d_law_214 : decode code 214 = .ok (.iconst 0, 1) := by decide +kernel
theorem d_law_215 : decode code 215 = .ok (.ireturn, 1) := by decide +kernel
theorem d_law_216 : decode code 216 = .ok (.aload_n 1, 1) := by decide +kernel
theorem d_law_217 : decode code 217 = .ok (.invokevirtual 32, 3) := by decide +kernel
theorem d_law_220 : decode code 220 = .ok (.aload_n 2, 1) := by decide +kernel
theorem d_law_221 : decode code 221 = .ok (.invokevirtual 36, 3) := by decide +kernel
theorem d_law_224 : decode code 224 = .ok (.if_icmp .eq 97, 3) := by decide +kernel
theorem d_law_227 : decode code 227 = .ok (.iconst 0, 1) := by decide +kernel
theorem d_law_228 : decode code 228 = .ok (.ireturn, 1) := by decide +kernel
theorem d_law_229 : decode code 229 = .ok (.aload_n 1, 1) := by decide +kernel
theorem d_law_230 : decode code 230 = .ok (.invokevirtual 37, 3) := by decide +kernel
theorem d_law_233 : decode code 233 = .ok (.aload_n 2, 1) := by decide +kernel
theorem d_law_234 : decode code 234 = .ok (.invokevirtual 40, 3) := by decide +kernel
theorem d_law_237 : decode code 237 = .ok (.if_icmp .eq 84, 3) := by decide +kernel
theorem d_law_240 : decode code 240 = .ok (.iconst 0, 1) := by decide +kernel
theorem d_law_241 : decode code 241 = .ok (.ireturn, 1) := by decide +kernel
theorem d_law_242 : decode code 242 = .ok (.aload_n 1, 1) := by decide +kernel
theorem d_law_243 : decode code 243 = .ok (.aload_n 0, 1) := by decide +kernel
theorem d_law_244 : decode code 244 = .ok (.iload_n 3, 1) := by decide +kernel
theorem d_law_245 : decode code 245 = .ok (.iconst 1, 1) := by decide +kernel
theorem d_law_246 : decode code 246 = .ok (.iadd, 1) := by decide +kernel
theorem d_law_247 : decode code 247 = .ok (.iaload, 1) := by decide +kernel
theorem d_law_248 : decode code 248 = .ok (.aload_n 0, 1) := by decide +kernel
theorem d_law_249 : decode code 249 = .ok (.iload_n 3, 1) := by decide +kernel
theorem d_law_250 : decode code 250 = .ok (.iconst 2, 1) := by decide +kernel
theorem d_law_251 : decode code 251 = .ok (.iadd, 1) := by decide +kernel
theorem d_law_252 : decode code 252 = .ok (.iaload, 1) := by decide +kernel
theorem d_law_253 : decode code 253 = .ok (.invokevirtual 41, 3) := by decide +kernel
theorem d_law_256 : decode code 256 = .ok (.aload_n 2, 1) := by decide +kernel
theorem d_law_257 : decode code 257 = .ok (.aload_n 0, 1) := by decide +kernel
theorem d_law_258 : decode code 258 = .ok (.iload_n 3, 1) := by decide +kernel
theorem d_law_259 : decode code 259 = .ok (.iconst 1, 1) := by decide +kernel
theorem d_law_260 : decode code 260 = .ok (.iadd, 1) := by decide +kernel
theorem d_law_261 : decode code 261 = .ok (.iaload, 1) := by decide +kernel
theorem d_law_262 : decode code 262 = .ok (.aload_n 0, 1) := by decide +kernel
theorem d_law_263 : decode code 263 = .ok (.iload_n 3, 1) := by decide +kernel
theorem d_law_264 : decode code 264 = .ok (.iconst 2, 1) := by decide +kernel
theorem d_law_265 : decode code 265 = .ok (.iadd, 1) := by decide +kernel
theorem d_law_266 : decode code 266 = .ok (.iaload, 1) := by decide +kernel
theorem d_law_267 : decode code 267 = .ok (.invokevirtual 45, 3) := by decide +kernel
theorem d_law_270 : decode code 270 = .ok (.if_icmp .eq 51, 3) := by decide +kernel
theorem d_law_273 : decode code 273 = .ok (.iconst 0, 1) := by decide +kernel
theorem d_law_274 : decode code 274 = .ok (.ireturn, 1) := by decide +kernel
theorem d_law_275 : decode code 275 = .ok (.aload_n 1, 1) := by decide +kernel
theorem d_law_276 : decode code 276 = .ok (.aload_n 0, 1) := by decide +kernel
theorem d_law_277 : decode code 277 = .ok (.iload_n 3, 1) := by decide +kernel
theorem d_law_278 : decode code 278 = .ok (.iconst 1, 1) := by decide +kernel
theorem d_law_279 : decode code 279 = .ok (.iadd, 1) := by decide +kernel
theorem d_law_280 : decode code 280 = .ok (.iaload, 1) := by decide +kernel
theorem d_law_281 : decode code 281 = .ok (.invokevirtual 46, 3) := by decide +kernel
theorem d_law_284 : decode code 284 = .ok (.aload_n 2, 1) := by decide +kernel
theorem d_law_285 : decode code 285 = .ok (.aload_n 0, 1) := by decide +kernel
theorem d_law_286 : decode code 286 = .ok (.iload_n 3, 1) := by decide +kernel
theorem d_law_287 : decode code 287 = .ok (.iconst 1, 1) := by decide +kernel
theorem d_law_288 : decode code 288 = .ok (.iadd, 1) := by decide +kernel
theorem d_law_289 : decode code 289 = .ok (.iaload, 1) := by decide +kernel
theorem d_law_290 : decode code 290 = .ok (.invokevirtual 49, 3) := by decide +kernel
theorem d_law_293 : decode code 293 = .ok (.if_icmp .eq 28, 3) := by decide +kernel
theorem d_law_296 : decode code 296 = .ok (.iconst 0, 1) := by decide +kernel
theorem d_law_297 : decode code 297 = .ok (.ireturn, 1) := by decide +kernel
theorem d_law_298 : decode code 298 = .ok (.aload_n 1, 1) := by decide +kernel
theorem d_law_299 : decode code 299 = .ok (.aload_n 0, 1) := by decide +kernel
theorem d_law_300 : decode code 300 = .ok (.iload_n 3, 1) := by decide +kernel
theorem d_law_301 : decode code 301 = .ok (.iconst 1, 1) := by decide +kernel
theorem d_law_302 : decode code 302 = .ok (.iadd, 1) := by decide +kernel
theorem d_law_303 : decode code 303 = .ok (.iaload, 1) := by decide +kernel
theorem d_law_304 : decode code 304 = .ok (.invokevirtual 50, 3) := by decide +kernel
theorem d_law_307 : decode code 307 = .ok (.aload_n 2, 1) := by decide +kernel
theorem d_law_308 : decode code 308 = .ok (.aload_n 0, 1) := by decide +kernel
theorem d_law_309 : decode code 309 = .ok (.iload_n 3, 1) := by decide +kernel
theorem d_law_310 : decode code 310 = .ok (.iconst 1, 1) := by decide +kernel
theorem d_law_311 : decode code 311 = .ok (.iadd, 1) := by decide +kernel
theorem d_law_312 : decode code 312 = .ok (.iaload, 1) := by decide +kernel
theorem d_law_313 : decode code 313 = .ok (.invokevirtual 54, 3) := by decide +kernel
theorem d_law_316 : decode code 316 = .ok (.if_icmp .eq 5, 3) := by decide +kernel
theorem d_law_319 : decode code 319 = .ok (.iconst 0, 1) := by decide +kernel
theorem d_law_320 : decode code 320 = .ok (.ireturn, 1) := by decide +kernel
theorem d_law_321 : decode code 321 = .ok (.iinc 3 4, 3) := by decide +kernel
theorem d_law_324 : decode code 324 = .ok (.goto (-306), 3) := by decide +kernel
theorem d_law_327 : decode code 327 = .ok (.iconst 1, 1) := by decide +kernel
theorem d_law_328 : decode code 328 = .ok (.ireturn, 1) := by decide +kernel
end
section
/-! what the methods do to blocks, flags and counts, in plain words -/
def clr (n : Nat) (dt : Nat → Bool) : Nat → Bool := fun j => if j < n then false else dt j
def cpL (n : Nat) (a b : Nat → Bool) : Nat → Bool := fun j => if j < n then a j else b j
def cpA (n : Nat) (f g : Nat → Int8) : Nat → Int8 := fun j => if j < 16 * n then f j else g j
def cpD (n : Nat) (dt : Nat → Bool) (f g : Nat → Int8) : Nat → Int8 := fun j => if j < 16 * n ∧ dt (j / 16) = true then f j else g j
def cnt (dt : Nat → Bool) : Nat → Nat
  | 0 => 0
  | n + 1 => cnt dt n + (if dt n = true then 1 else 0)
def fl (dt : Nat → Bool) (ld : Nat → Nat) : Nat → Nat → Nat
  | 0 => ld
  | n + 1 => if dt n = true then va_up (fl dt ld n) (cnt dt n) n else fl dt ld n
def hmN (lg : Nat → Int8) (ld : Nat → Nat) (hm : Nat → Int8) : Nat → Nat → Int8
  | 0 => hm
  | n + 1 => va_cpy lg (hmN lg ld hm n) (16 * n) (16 * ld n) 16
def lgN (wk : Nat → Int8) (ld : Nat → Nat) (lg : Nat → Int8) : Nat → Nat → Int8
  | 0 => lg
  | n + 1 => va_cpy wk (lgN wk ld lg n) (16 * ld n) (16 * n) 16
def dcl (ld : Nat → Nat) (dt : Nat → Bool) : Nat → Nat → Bool
  | 0 => dt
  | n + 1 => va_up (dcl ld dt n) (ld n) false
def layN (n : Nat) (lo : Nat → Bool) (mx : Nat) (f g : Nat → Int8) : Nat → Int8 := fun j => if j < 16 * n ∧ lo (j / 16) = true ∧ cnt lo (j / 16) < mx then f j else g j
theorem clr_0 (dt : Nat → Bool) : clr 0 dt = dt := by funext j; simp [clr]
theorem clr_s (b : Nat) (dt : Nat → Bool) : va_up (clr b dt) b false = clr (b + 1) dt := by
  funext j
  unfold va_up clr
  by_cases h : j = b
  · subst h; simp
  · rw [if_neg h]
    by_cases h2 : j < b
    · rw [if_pos h2, if_pos (by omega)]
    · rw [if_neg h2, if_neg (by omega)]
theorem clr_at (b : Nat) (dt : Nat → Bool) : clr b dt b = dt b := by simp [clr]
theorem cpL_0 (a b : Nat → Bool) : cpL 0 a b = b := by funext j; simp [cpL]
theorem cpL_s (b : Nat) (a l : Nat → Bool) : va_up (cpL b a l) b (a b) = cpL (b + 1) a l := by
  funext j
  unfold va_up cpL
  by_cases h : j = b
  · subst h; simp
  · rw [if_neg h]
    by_cases h2 : j < b
    · rw [if_pos h2, if_pos (by omega)]
    · rw [if_neg h2, if_neg (by omega)]
theorem cpA_0 (f g : Nat → Int8) : cpA 0 f g = g := by funext j; simp [cpA]
theorem cpA_s (b : Nat) (f g : Nat → Int8) : va_cpy f (cpA b f g) (16 * b) (16 * b) 16 = cpA (b + 1) f g := by
  funext j
  unfold va_cpy cpA
  by_cases h : 16 * b ≤ j ∧ j < 16 * b + 16
  · rw [if_pos h, if_pos (by omega)]; congr 1; omega
  · rw [if_neg h]
    by_cases h2 : j < 16 * b
    · rw [if_pos h2, if_pos (by omega)]
    · rw [if_neg h2, if_neg (by omega)]
theorem cpD_0 (dt : Nat → Bool) (f g : Nat → Int8) : cpD 0 dt f g = g := by funext j; simp [cpD]
theorem cpD_t {b : Nat} {dt : Nat → Bool} (h : dt b = true) (f g : Nat → Int8) : va_cpy f (cpD b dt f g) (16 * b) (16 * b) 16 = cpD (b + 1) dt f g := by
  funext j
  unfold va_cpy cpD
  by_cases h1 : 16 * b ≤ j ∧ j < 16 * b + 16
  · have e : j / 16 = b := by omega
    rw [if_pos h1, e, if_pos ⟨by omega, h⟩]; congr 1; omega
  · rw [if_neg h1]
    by_cases h2 : j < 16 * b
    · have e1 : (j < 16 * b ∧ dt (j / 16) = true) ↔ (j < 16 * (b + 1) ∧ dt (j / 16) = true) := ⟨fun z => ⟨by omega, z.2⟩, fun z => ⟨h2, z.2⟩⟩
      simp only [e1]
    · rw [if_neg (fun z => h2 z.1), if_neg (fun z => by omega)]
theorem cpD_f {b : Nat} {dt : Nat → Bool} (h : dt b = false) (f g : Nat → Int8) : cpD b dt f g = cpD (b + 1) dt f g := by
  funext j
  unfold cpD
  by_cases h1 : j / 16 = b
  · rw [h1, h]; simp
  · have e1 : (j < 16 * b ∧ dt (j / 16) = true) ↔ (j < 16 * (b + 1) ∧ dt (j / 16) = true) := ⟨fun z => ⟨by omega, z.2⟩, fun z => ⟨by omega, z.2⟩⟩
    simp only [e1]
theorem layN_0 (lo : Nat → Bool) (mx : Nat) (f g : Nat → Int8) : layN 0 lo mx f g = g := by funext j; simp [layN]
theorem layN_t {b : Nat} {lo : Nat → Bool} {mx : Nat} (h : lo b = true) (h3 : cnt lo b < mx) (f g : Nat → Int8) : va_cpy f (layN b lo mx f g) (16 * b) (16 * b) 16 = layN (b + 1) lo mx f g := by
  funext j
  unfold va_cpy layN
  by_cases h1 : 16 * b ≤ j ∧ j < 16 * b + 16
  · have e : j / 16 = b := by omega
    rw [if_pos h1, e, if_pos ⟨by omega, h, h3⟩]; congr 1; omega
  · rw [if_neg h1]
    by_cases h2 : j < 16 * b
    · have e1 : (j < 16 * b ∧ lo (j / 16) = true ∧ cnt lo (j / 16) < mx) ↔ (j < 16 * (b + 1) ∧ lo (j / 16) = true ∧ cnt lo (j / 16) < mx) := ⟨fun z => ⟨by omega, z.2⟩, fun z => ⟨h2, z.2⟩⟩
      simp only [e1]
    · rw [if_neg (fun z => h2 z.1), if_neg (fun z => by omega)]
theorem layN_f {b : Nat} {lo : Nat → Bool} {mx : Nat} (h : ¬ (lo b = true ∧ cnt lo b < mx)) (f g : Nat → Int8) : layN b lo mx f g = layN (b + 1) lo mx f g := by
  funext j
  unfold layN
  by_cases h1 : j / 16 = b
  · rw [h1, if_neg (fun z => h z.2), if_neg (fun z => h z.2)]
  · have e1 : (j < 16 * b ∧ lo (j / 16) = true ∧ cnt lo (j / 16) < mx) ↔ (j < 16 * (b + 1) ∧ lo (j / 16) = true ∧ cnt lo (j / 16) < mx) := ⟨fun z => ⟨by omega, z.2⟩, fun z => ⟨by omega, z.2⟩⟩
    simp only [e1]
theorem cpy_0 {α : Type} (f g : Nat → α) (o : Nat) : va_cpy f g o o 0 = g := by
  funext j
  unfold va_cpy
  rw [if_neg (by omega)]
theorem cpy_s {α : Type} (f g : Nat → α) (o i : Nat) : va_up (va_cpy f g o o i) (o + i) (f (o + i)) = va_cpy f g o o (i + 1) := by
  funext j
  unfold va_up va_cpy
  by_cases h : j = o + i
  · subst h
    rw [if_pos rfl, if_pos (by omega)]; congr 1; omega
  · rw [if_neg h]
    by_cases h2 : o ≤ j ∧ j < o + i
    · rw [if_pos h2, if_pos (by omega)]
    · rw [if_neg h2, if_neg (by omega)]
theorem cnt_t {dt : Nat → Bool} {n : Nat} (h : dt n = true) : cnt dt n + 1 = cnt dt (n + 1) := by simp [cnt, h]
theorem cnt_f {dt : Nat → Bool} {n : Nat} (h : dt n = false) : cnt dt n = cnt dt (n + 1) := by simp [cnt, h]
theorem cnt_le (dt : Nat → Bool) (n : Nat) : cnt dt n ≤ n := by
  induction n with
  | zero => exact Nat.le_refl _
  | succ n ih =>
    unfold cnt
    by_cases h : dt n = true
    · rw [if_pos h]; omega
    · rw [if_neg h]; omega
theorem fl_t {dt : Nat → Bool} {ld : Nat → Nat} {n : Nat} (h : dt n = true) : va_up (fl dt ld n) (cnt dt n) n = fl dt ld (n + 1) := by simp [fl, h]
theorem fl_f {dt : Nat → Bool} {ld : Nat → Nat} {n : Nat} (h : dt n = false) : fl dt ld n = fl dt ld (n + 1) := by simp [fl, h]
theorem fl_lt (dt : Nat → Bool) (ld : Nat → Nat) (n : Nat) : ∀ k, k < cnt dt n → fl dt ld n k < n := by
  induction n with
  | zero => intro k h; simp [cnt] at h
  | succ n ih =>
    intro k h
    by_cases hd : dt n = true
    · rw [← fl_t hd]
      rw [← cnt_t hd] at h
      unfold va_up
      by_cases e : k = cnt dt n
      · rw [if_pos e]; omega
      · rw [if_neg e]
        have := ih k (by omega)
        omega
    · have hd : dt n = false := by simpa using hd
      rw [← fl_f hd]
      rw [← cnt_f hd] at h
      have := ih k h
      omega
theorem mul_b {a b : Nat} (h : a ≤ 24) (h2 : b ≤ 1000) : a * b ≤ 24000 := Nat.mul_le_mul h h2
theorem div_b {a b d : Nat} (hb : b ≤ d) : a * b / d ≤ a := by
  rcases Nat.eq_zero_or_pos d with h | h
  · subst h; simp
  · exact Nat.div_le_of_le_mul (by rw [Nat.mul_comm]; exact Nat.mul_le_mul_right a hb)
end
section
theorem hmN_s (lg : Nat → Int8) (ld : Nat → Nat) (hm : Nat → Int8) (n : Nat) : va_cpy lg (hmN lg ld hm n) (16 * n) (16 * ld n) 16 = hmN lg ld hm (n + 1) := rfl
theorem lgN_s (wk : Nat → Int8) (ld : Nat → Nat) (lg : Nat → Int8) (n : Nat) : va_cpy wk (lgN wk ld lg n) (16 * ld n) (16 * n) 16 = lgN wk ld lg (n + 1) := rfl
theorem dcl_s (ld : Nat → Nat) (dt : Nat → Bool) (n : Nat) : va_up (dcl ld dt n) (ld n) false = dcl ld dt (n + 1) := rfl
set_option maxHeartbeats 4000000 in
set_option maxRecDepth 100000 in
/-- a block is copied -/
theorem c_Disk_copy (l : Launch) (D : va_G) (k : Nat → ClassId) (x y : Nat) (f g : Nat → Int8) (a b : Nat) (ha : a < 24) (hb24 : b < 24) : Cv l D (tyK k) y_Disk_copy k_Disk_copy ({ frames := 1, cells := 0, slots := 0, locals := 18 }) [.ref x, .int (nI a), .ref y, .int (nI b)] ([aB k x f, aB k y g]) ([aB k x f, aB k y (va_cpy f g (16 * a) (16 * b) 16)]) := by
  refine open_v (by decide) (Nat.le_of_ble_eq_true rfl) ?_
  intro pg ev s m below meth c A hx hb hml hr hlocks htw hown hnm hA hS hP hK hD hN ls hl
  have hown : s.vm.findClass R_Disk = some m.cls := hown
  have hl : lv_has ls 4 [(0, .ref x), (1, .int (nI a)), (2, .ref y), (3, .int (nI b))] := hl
  refine lv_aload_n hx hb d_Disk_copy_0 rfl (lv_at hl 0 rfl) ?_
  refine lv_iload_n hx hb d_Disk_copy_1 rfl (lv_at hl 1 rfl) ?_
  refine lv_bipush (v := (nI 16)) hx hb d_Disk_copy_2 (by decide) ?_
  refine my_imul hx hb (x := a) (y := 16) d_Disk_copy_4 ?_
  refine lv_as (y := (nI (16 * a))) (congrArg nI (Nat.mul_comm _ _)) ?_
  refine lv_aload_n hx hb d_Disk_copy_5 rfl (lv_at hl 2 rfl) ?_
  refine lv_iload_n hx hb d_Disk_copy_6 rfl (lv_at hl 3 rfl) ?_
  refine lv_bipush (v := (nI 16)) hx hb d_Disk_copy_7 (by decide) ?_
  refine my_imul hx hb (x := b) (y := 16) d_Disk_copy_9 ?_
  refine lv_as (y := (nI (16 * b))) (congrArg nI (Nat.mul_comm _ _)) ?_
  refine lv_bipush (v := (nI 16)) hx hb d_Disk_copy_10 (by decide) ?_
  refine my_copy hx hb (hml.trans hl.1.symm) hown (htw _ tw_111) (htw _ tw_113) (htw _ tw_112) (htw _ tw_12) hK hP hD hS 0 1 0 0 rfl rfl rfl rfl (by decide) (by decide) (by omega) (by omega) (Nat.le_of_ble_eq_true rfl) (Nat.le_of_ble_eq_true rfl) d_Disk_copy_12 (fun H locs hP hD hS => ?_)
  have hP : va_P D classes ([aB k x f, aB k y (va_cpy f g (16 * a) (16 * b) 16)]) H := hP
  have hD : va_D A ([aB k x f, aB k y (va_cpy f g (16 * a) (16 * b) 16)]) := hD
  exact ret_v hx hb hr hlocks hK hP hD hS d_Disk_copy_15
set_option maxHeartbeats 4000000 in
set_option maxRecDepth 100000 in
theorem c_Disk_touch (l : Launch) (D : va_G) (k : Nat → ClassId) (q : Nat → Nat) (wk hm lg : Nat → Int8) (dt : Nat → Bool) (ld : Nat → Nat) (ct : Nat) (mk on : Bool) (un sh : Nat) (b : Nat) (hb24 : b < 24) : Cv l D (tyK k) y_Disk_touch k_Disk_touch ({ frames := 0, cells := 0, slots := 0, locals := 0 }) [.ref (q 1), .int (nI b)] (dW k q wk hm lg dt ld ct mk on un sh) (dW k q wk hm lg (va_up dt b true) ld ct mk on un sh) := by
  refine open_v (by decide) (Nat.le_of_ble_eq_true rfl) ?_
  intro pg ev s m below meth c A hx hb hml hr hlocks htw hown hnm hA hS hP hK hD hN ls hl
  have hown : s.vm.findClass R_Disk = some m.cls := hown
  have hl : lv_has ls 2 [(0, .ref (q 1)), (1, .int (nI b))] := hl
  refine lv_aload_n hx hb d_Disk_touch_0 rfl (lv_at hl 0 rfl) ?_
  refine va_get (D := D) (ci := 1) (v := .ref (q 5)) (C := R_Disk) (T := F_Disk) (N := 10) hx hb htw i_Disk hown hK hP 0 rfl rfl 3 (by decide) (htw _ tw_32) (fun _ h9 => h9) rfl d_Disk_touch_1 ?_
  refine lv_iload_n hx hb d_Disk_touch_4 rfl (lv_at hl 1 rfl) ?_
  refine lv_iconst (v := (nI 1)) hx hb d_Disk_touch_5 (by decide) ?_
  refine lv_as (y := (bI true)) rfl ?_
  refine my_zast hx hb hK hP hD hS 4 1 rfl rfl (i := b) (v := true) (by omega) (by decide) d_Disk_touch_6 (fun H locs hP hD hS => ?_)
  have hP : va_P D classes (dW k q wk hm lg (va_up dt b true) ld ct mk on un sh) H := hP
  have hD : va_D A (dW k q wk hm lg (va_up dt b true) ld ct mk on un sh) := hD
  exact ret_v hx hb hr hlocks hK hP hD hS d_Disk_touch_7
set_option maxHeartbeats 4000000 in
set_option maxRecDepth 100000 in
theorem c_Disk_off (l : Launch) (D : va_G) (k : Nat → ClassId) (q : Nat → Nat) (wk hm lg : Nat → Int8) (dt : Nat → Bool) (ld : Nat → Nat) (ct : Nat) (mk on : Bool) (un sh : Nat) : Ci l D (tyK k) y_Disk_off k_Disk_off ({ frames := 0, cells := 0, slots := 0, locals := 0 }) [.ref (q 1)] (dW k q wk hm lg dt ld ct mk on un sh) (bI false) (dW k q wk hm lg dt ld ct mk false un sh) := by
  refine open_i (by decide) (Nat.le_of_ble_eq_true rfl) ?_
  intro pg ev s m below meth c A hx hb hml hr hlocks htw hown hnm hA hS hP hK hD hN ls hl
  have hown : s.vm.findClass R_Disk = some m.cls := hown
  have hl : lv_has ls 1 [(0, .ref (q 1))] := hl
  refine lv_aload_n hx hb d_Disk_off_0 rfl (lv_at hl 0 rfl) ?_
  refine lv_iconst (v := (nI 0)) hx hb d_Disk_off_1 (by decide) ?_
  refine lv_as (y := (bI false)) rfl ?_
  refine va_put (D := D) (ci := 1) (v := .int (bI false)) (ty := .boolean) (C := R_Disk) (T := F_Disk) (N := 10) hx hb htw i_Disk t_Disk t_Disk_ok n_Disk hown hK hP hD hS 0 rfl rfl 7 (by decide) (htw _ tw_39) (fun _ h9 => h9) rfl (by decide +kernel) (bI_nar _) (bI_fit _) (Nat.le_of_ble_eq_true rfl) d_Disk_off_2 (fun H locs hP hD hS => ?_)
  have hP : va_P D classes (dW k q wk hm lg dt ld ct mk false un sh) H := hP
  have hD : va_D A (dW k q wk hm lg dt ld ct mk false un sh) := hD
  refine lv_iconst (v := (nI 0)) hx hb d_Disk_off_5 (by decide) ?_
  refine lv_as (y := (bI false)) rfl ?_
  exact ret_z hx hb hr hlocks hK hP hD hS (v := false) rfl d_Disk_off_6
set_option maxHeartbeats 4000000 in
set_option maxRecDepth 100000 in
theorem c_Disk_revert (l : Launch) (D : va_G) (k : Nat → ClassId) (q : Nat → Nat) (wk hm lg : Nat → Int8) (dt : Nat → Bool) (ld : Nat → Nat) (ct : Nat) (mk on : Bool) (un sh : Nat) : Cv l D (tyK k) y_Disk_revert k_Disk_revert ({ frames := 2, cells := 0, slots := 0, locals := 41 }) [.ref (q 1)] (dW k q wk hm lg dt ld ct mk on un sh) (dW k q (cpD 24 dt hm wk) hm lg (clr 24 dt) ld ct mk on un sh) := by
  refine open_v (by decide) (Nat.le_of_ble_eq_true rfl) ?_
  intro pg ev s m below meth c A hx hb hml hr hlocks htw hown hnm hA hS hP hK hD hN ls hl
  have hown : s.vm.findClass R_Disk = some m.cls := hown
  have hl : lv_has ls 2 [(0, .ref (q 1))] := hl
  refine lv_iconst (v := (nI 0)) hx hb d_Disk_revert_0 (by decide) ?_
  refine lv_istore_n (lv' := [(1, .int (nI 0)), (0, .ref (q 1))]) hx hb d_Disk_revert_1 rfl hl (by decide) rfl (fun ls hl => ?_)
  have hP : va_P D classes (dW k q (cpD 0 dt hm wk) hm lg (clr 0 dt) ld ct mk on un sh) s.heap := by rw [cpD_0, clr_0]; exact hP
  have hD : va_D A (dW k q (cpD 0 dt hm wk) hm lg (clr 0 dt) ld ct mk on un sh) := by rw [cpD_0, clr_0]; exact hD
  have hl := lv_sub hl [1, 0] rfl
  refine loopW (nL := 2) (D := D) (A := A) (24) (fun b => dW k q (cpD b dt hm wk) hm lg (clr b dt) ld ct mk on un sh) (fun b => [(0, .ref (q 1)), (1, .int (nI b))]) ?_ ?_ 0 (Nat.zero_le _) _ _ _ hP hD hS hl
  · intro b hlt ih H locs ls hP hD hS hl
    have hP : va_P D classes (dW k q (cpD b dt hm wk) hm lg (clr b dt) ld ct mk on un sh) H := hP
    have hD : va_D A (dW k q (cpD b dt hm wk) hm lg (clr b dt) ld ct mk on un sh) := hD
    have hl : lv_has ls 2 [(0, .ref (q 1)), (1, .int (nI b))] := hl
    refine lv_iload_n hx hb d_Disk_revert_2 rfl (lv_at hl 1 rfl) ?_
    refine lv_bipush (v := (nI 24)) hx hb d_Disk_revert_3 (by decide) ?_
    refine my_icmpge (tgt := 43) hx hb (x := b) (y := 24) (by omega) (by omega) d_Disk_revert_5 (by decide) (fun c_5 => absurd c_5 (by omega)) (fun c_5 => ?_)
    refine lv_aload_n hx hb d_Disk_revert_8 rfl (lv_at hl 0 rfl) ?_
    refine va_get (D := D) (ci := 1) (v := .ref (q 5)) (C := R_Disk) (T := F_Disk) (N := 10) hx hb htw i_Disk hown hK hP 0 rfl rfl 3 (by decide) (htw _ tw_32) (fun _ h9 => h9) rfl d_Disk_revert_9 ?_
    refine lv_iload_n hx hb d_Disk_revert_12 rfl (lv_at hl 1 rfl) ?_
    refine my_zald hx hb hK hP 4 1 rfl rfl (i := b) (by omega) (by decide) d_Disk_revert_13 ?_
    refine my_ifeq (tgt := 30) hx hb d_Disk_revert_14 (by decide) (fun c_14 => ?_) (fun c_14 => ?_)
    · rw [clr_at] at c_14
      rw [cpD_f c_14] at hP hD
      refine lv_aload_n hx hb d_Disk_revert_30 rfl (lv_at hl 0 rfl) ?_
      refine va_get (D := D) (ci := 1) (v := .ref (q 5)) (C := R_Disk) (T := F_Disk) (N := 10) hx hb htw i_Disk hown hK hP 0 rfl rfl 3 (by decide) (htw _ tw_32) (fun _ h9 => h9) rfl d_Disk_revert_31 ?_
      refine lv_iload_n hx hb d_Disk_revert_34 rfl (lv_at hl 1 rfl) ?_
      refine lv_iconst (v := (nI 0)) hx hb d_Disk_revert_35 (by decide) ?_
      refine lv_as (y := (bI false)) rfl ?_
      refine my_zast hx hb hK hP hD hS 4 1 rfl rfl (i := b) (v := false) (by omega) (by decide) d_Disk_revert_36 (fun H locs hP hD hS => ?_)
      have hP : va_P D classes (dW k q (cpD (b + 1) dt hm wk) hm lg (va_up (clr b dt) b false) ld ct mk on un sh) H := hP
      have hD : va_D A (dW k q (cpD (b + 1) dt hm wk) hm lg (va_up (clr b dt) b false) ld ct mk on un sh) := hD
      rw [clr_s] at hP hD
      refine lv_iinc (v := (nI (b + 1))) (lv' := [(1, .int (nI (b + 1))), (0, .ref (q 1))]) hx hb d_Disk_revert_37 hl (k := 1) rfl (nI_add _ 1) (by decide) rfl (fun ls hl => ?_)
      refine lv_goto (tgt := 2) hx hb d_Disk_revert_40 (by decide) ?_
      exact ih _ _ _ hP hD hS (lv_sub hl [1, 0] rfl)
    · rw [clr_at] at c_14
      refine lv_aload_n hx hb d_Disk_revert_17 rfl (lv_at hl 0 rfl) ?_
      refine va_get (D := D) (ci := 1) (v := .ref (q 3)) (C := R_Disk) (T := F_Disk) (N := 10) hx hb htw i_Disk hown hK hP 0 rfl rfl 1 (by decide) (htw _ tw_29) (fun _ h9 => h9) rfl d_Disk_revert_18 ?_
      refine lv_iload_n hx hb d_Disk_revert_21 rfl (lv_at hl 1 rfl) ?_
      refine lv_aload_n hx hb d_Disk_revert_22 rfl (lv_at hl 0 rfl) ?_
      refine va_get (D := D) (ci := 1) (v := .ref (q 2)) (C := R_Disk) (T := F_Disk) (N := 10) hx hb htw i_Disk hown hK hP 0 rfl rfl 0 (by decide) (htw _ tw_27) (fun _ h9 => h9) rfl d_Disk_revert_23 ?_
      refine lv_iload_n hx hb d_Disk_revert_26 rfl (lv_at hl 1 rfl) ?_
      refine call_Sv (n := 4) (As := [.ref (q 3), .int (nI b), .ref (q 2), .int (nI b)]) (ws' := dW k q (va_cpy hm (cpD b dt hm wk) (16 * b) (16 * b) 16) hm lg (clr b dt) ld ct mk on un sh) ⟨hx, hb, hml, hown, htw⟩ (c_Disk_copy l D k (q 3) (q 2) hm (cpD b dt hm wk) b b hlt hlt) (in_S tw_108 tw_109 tw_10 tw_110) (by decide +kernel) ⟨rfl, rfl, Nat.le_of_ble_eq_true rfl, Nat.le_of_ble_eq_true rfl⟩ hK hN hP hD hS hA [2, 1] [0, 3, 4, 5] [0, 5, 4, 1, 2, 3] rfl rfl ([oD q ct mk on un sh, aB k (q 4) lg, aZ k (q 5) (clr b dt), aN k (q 6) ld]) rfl rfl (by decide) rfl rfl hl.1 rfl rfl (Nat.le_of_ble_eq_true rfl) d_Disk_revert_27 ⟨Nat.zero_le _, Nat.zero_le _⟩ (fun H locs hP hD hS => ?_)
      rw [cpD_t c_14] at hP hD
      refine lv_aload_n hx hb d_Disk_revert_30 rfl (lv_at hl 0 rfl) ?_
      refine va_get (D := D) (ci := 1) (v := .ref (q 5)) (C := R_Disk) (T := F_Disk) (N := 10) hx hb htw i_Disk hown hK hP 0 rfl rfl 3 (by decide) (htw _ tw_32) (fun _ h9 => h9) rfl d_Disk_revert_31 ?_
      refine lv_iload_n hx hb d_Disk_revert_34 rfl (lv_at hl 1 rfl) ?_
      refine lv_iconst (v := (nI 0)) hx hb d_Disk_revert_35 (by decide) ?_
      refine lv_as (y := (bI false)) rfl ?_
      refine my_zast hx hb hK hP hD hS 4 1 rfl rfl (i := b) (v := false) (by omega) (by decide) d_Disk_revert_36 (fun H locs hP hD hS => ?_)
      have hP : va_P D classes (dW k q (cpD (b + 1) dt hm wk) hm lg (va_up (clr b dt) b false) ld ct mk on un sh) H := hP
      have hD : va_D A (dW k q (cpD (b + 1) dt hm wk) hm lg (va_up (clr b dt) b false) ld ct mk on un sh) := hD
      rw [clr_s] at hP hD
      refine lv_iinc (v := (nI (b + 1))) (lv' := [(1, .int (nI (b + 1))), (0, .ref (q 1))]) hx hb d_Disk_revert_37 hl (k := 1) rfl (nI_add _ 1) (by decide) rfl (fun ls hl => ?_)
      refine lv_goto (tgt := 2) hx hb d_Disk_revert_40 (by decide) ?_
      exact ih _ _ _ hP hD hS (lv_sub hl [1, 0] rfl)
  · intro H locs ls hP hD hS hl
    have hP : va_P D classes (dW k q (cpD 24 dt hm wk) hm lg (clr 24 dt) ld ct mk on un sh) H := hP
    have hD : va_D A (dW k q (cpD 24 dt hm wk) hm lg (clr 24 dt) ld ct mk on un sh) := hD
    have hl : lv_has ls 2 [(0, .ref (q 1)), (1, .int (nI 24))] := hl
    refine lv_iload_n hx hb d_Disk_revert_2 rfl (lv_at hl 1 rfl) ?_
    refine lv_bipush (v := (nI 24)) hx hb d_Disk_revert_3 (by decide) ?_
    refine my_icmpge (tgt := 43) hx hb (x := 24) (y := 24) (by omega) (by omega) d_Disk_revert_5 (by decide) (fun c_5 => ?_) (fun c_5 => absurd c_5 (by omega))
    exact ret_v hx hb hr hlocks hK hP hD hS d_Disk_revert_43
set_option maxHeartbeats 4000000 in
set_option maxRecDepth 100000 in
theorem c_Disk_fills (l : Launch) (D : va_G) (k : Nat → ClassId) (q : Nat → Nat) (wk hm lg : Nat → Int8) (dt : Nat → Bool) (ld : Nat → Nat) (ct : Nat) (mk on : Bool) (un sh : Nat) : Cv l D (tyK k) y_Disk_fills k_Disk_fills ({ frames := 0, cells := 0, slots := 0, locals := 0 }) [.ref (q 1)] (dW k q wk hm lg dt ld ct mk on un sh) (dW k q wk hm lg dt (fl dt ld 24) (cnt dt 24) mk on un sh) := by
  refine open_v (by decide) (Nat.le_of_ble_eq_true rfl) ?_
  intro pg ev s m below meth c A hx hb hml hr hlocks htw hown hnm hA hS hP hK hD hN ls hl
  have hown : s.vm.findClass R_Disk = some m.cls := hown
  have hl : lv_has ls 2 [(0, .ref (q 1))] := hl
  refine lv_aload_n hx hb d_Disk_fills_0 rfl (lv_at hl 0 rfl) ?_
  refine lv_iconst (v := (nI 0)) hx hb d_Disk_fills_1 (by decide) ?_
  refine va_put (D := D) (ci := 1) (v := .int (nI 0)) (ty := .int) (C := R_Disk) (T := F_Disk) (N := 10) hx hb htw i_Disk t_Disk t_Disk_ok n_Disk hown hK hP hD hS 0 rfl rfl 5 (by decide) (htw _ tw_35) (fun _ h9 => h9) rfl (by decide +kernel) rfl rfl (Nat.le_of_ble_eq_true rfl) d_Disk_fills_2 (fun H locs hP hD hS => ?_)
  have hP : va_P D classes (dW k q wk hm lg dt ld 0 mk on un sh) H := hP
  have hD : va_D A (dW k q wk hm lg dt ld 0 mk on un sh) := hD
  refine lv_iconst (v := (nI 0)) hx hb d_Disk_fills_5 (by decide) ?_
  refine lv_istore_n (lv' := [(1, .int (nI 0)), (0, .ref (q 1))]) hx hb d_Disk_fills_6 rfl hl (by decide) rfl (fun ls hl => ?_)
  have hl := lv_sub hl [1, 0] rfl
  refine loopW (nL := 2) (D := D) (A := A) (24) (fun b => dW k q wk hm lg dt (fl dt ld b) (cnt dt b) mk on un sh) (fun b => [(0, .ref (q 1)), (1, .int (nI b))]) ?_ ?_ 0 (Nat.zero_le _) _ _ _ hP hD hS hl
  · intro b hlt ih H locs ls hP hD hS hl
    have hP : va_P D classes (dW k q wk hm lg dt (fl dt ld b) (cnt dt b) mk on un sh) H := hP
    have hD : va_D A (dW k q wk hm lg dt (fl dt ld b) (cnt dt b) mk on un sh) := hD
    have hl : lv_has ls 2 [(0, .ref (q 1)), (1, .int (nI b))] := hl
    refine lv_iload_n hx hb d_Disk_fills_7 rfl (lv_at hl 1 rfl) ?_
    refine lv_bipush (v := (nI 24)) hx hb d_Disk_fills_8 (by decide) ?_
    refine my_icmpge (tgt := 51) hx hb (x := b) (y := 24) (by omega) (by omega) d_Disk_fills_10 (by decide) (fun c_10 => absurd c_10 (by omega)) (fun c_10 => ?_)
    refine lv_aload_n hx hb d_Disk_fills_13 rfl (lv_at hl 0 rfl) ?_
    refine va_get (D := D) (ci := 1) (v := .ref (q 5)) (C := R_Disk) (T := F_Disk) (N := 10) hx hb htw i_Disk hown hK hP 0 rfl rfl 3 (by decide) (htw _ tw_32) (fun _ h9 => h9) rfl d_Disk_fills_14 ?_
    refine lv_iload_n hx hb d_Disk_fills_17 rfl (lv_at hl 1 rfl) ?_
    refine my_zald hx hb hK hP 4 1 rfl rfl (i := b) (by omega) (by decide) d_Disk_fills_18 ?_
    refine my_ifne (tgt := 25) hx hb d_Disk_fills_19 (by decide) (fun c_19 => ?_) (fun c_19 => ?_)
    · refine lv_aload_n hx hb d_Disk_fills_25 rfl (lv_at hl 0 rfl) ?_
      refine va_get (D := D) (ci := 1) (v := .ref (q 6)) (C := R_Disk) (T := F_Disk) (N := 10) hx hb htw i_Disk hown hK hP 0 rfl rfl 4 (by decide) (htw _ tw_34) (fun _ h9 => h9) rfl d_Disk_fills_26 ?_
      refine lv_aload_n hx hb d_Disk_fills_29 rfl (lv_at hl 0 rfl) ?_
      refine va_get (D := D) (ci := 1) (v := .int (nI (cnt dt b))) (C := R_Disk) (T := F_Disk) (N := 10) hx hb htw i_Disk hown hK hP 0 rfl rfl 5 (by decide) (htw _ tw_35) (fun _ h9 => h9) rfl d_Disk_fills_30 ?_
      refine lv_iload_n hx hb d_Disk_fills_33 rfl (lv_at hl 1 rfl) ?_
      refine my_iast hx hb hK hP hD hS 5 2 rfl rfl (i := cnt dt b) (v := b) (Nat.lt_of_le_of_lt (cnt_le dt b) hlt) (by decide) d_Disk_fills_34 (fun H locs hP hD hS => ?_)
      have hP : va_P D classes (dW k q wk hm lg dt (va_up (fl dt ld b) (cnt dt b) b) (cnt dt b) mk on un sh) H := hP
      have hD : va_D A (dW k q wk hm lg dt (va_up (fl dt ld b) (cnt dt b) b) (cnt dt b) mk on un sh) := hD
      refine lv_aload_n hx hb d_Disk_fills_35 rfl (lv_at hl 0 rfl) ?_
      refine lv_dup hx hb d_Disk_fills_36 rfl ?_
      refine va_get (D := D) (ci := 1) (v := .int (nI (cnt dt b))) (C := R_Disk) (T := F_Disk) (N := 10) hx hb htw i_Disk hown hK hP 0 rfl rfl 5 (by decide) (htw _ tw_35) (fun _ h9 => h9) rfl d_Disk_fills_37 ?_
      refine lv_iconst (v := (nI 1)) hx hb d_Disk_fills_40 (by decide) ?_
      refine my_iadd hx hb (x := cnt dt b) (y := 1) d_Disk_fills_41 ?_
      refine va_put (D := D) (ci := 1) (v := .int (nI ((cnt dt b) + 1))) (ty := .int) (C := R_Disk) (T := F_Disk) (N := 10) hx hb htw i_Disk t_Disk t_Disk_ok n_Disk hown hK hP hD hS 0 rfl rfl 5 (by decide) (htw _ tw_35) (fun _ h9 => h9) rfl (by decide +kernel) rfl rfl (Nat.le_of_ble_eq_true rfl) d_Disk_fills_42 (fun H locs hP hD hS => ?_)
      have hP : va_P D classes (dW k q wk hm lg dt (va_up (fl dt ld b) (cnt dt b) b) ((cnt dt b) + 1) mk on un sh) H := hP
      have hD : va_D A (dW k q wk hm lg dt (va_up (fl dt ld b) (cnt dt b) b) ((cnt dt b) + 1) mk on un sh) := hD
      rw [cnt_t c_19] at hP hD
      rw [fl_t c_19] at hP hD
      refine lv_iinc (v := (nI (b + 1))) (lv' := [(1, .int (nI (b + 1))), (0, .ref (q 1))]) hx hb d_Disk_fills_45 hl (k := 1) rfl (nI_add _ 1) (by decide) rfl (fun ls hl => ?_)
      refine lv_goto (tgt := 7) hx hb d_Disk_fills_48 (by decide) ?_
      exact ih _ _ _ hP hD hS (lv_sub hl [1, 0] rfl)
    · refine lv_goto (tgt := 45) hx hb d_Disk_fills_22 (by decide) ?_
      rw [cnt_f c_19] at hP hD
      rw [fl_f c_19] at hP hD
      refine lv_iinc (v := (nI (b + 1))) (lv' := [(1, .int (nI (b + 1))), (0, .ref (q 1))]) hx hb d_Disk_fills_45 hl (k := 1) rfl (nI_add _ 1) (by decide) rfl (fun ls hl => ?_)
      refine lv_goto (tgt := 7) hx hb d_Disk_fills_48 (by decide) ?_
      exact ih _ _ _ hP hD hS (lv_sub hl [1, 0] rfl)
  · intro H locs ls hP hD hS hl
    have hP : va_P D classes (dW k q wk hm lg dt (fl dt ld 24) (cnt dt 24) mk on un sh) H := hP
    have hD : va_D A (dW k q wk hm lg dt (fl dt ld 24) (cnt dt 24) mk on un sh) := hD
    have hl : lv_has ls 2 [(0, .ref (q 1)), (1, .int (nI 24))] := hl
    refine lv_iload_n hx hb d_Disk_fills_7 rfl (lv_at hl 1 rfl) ?_
    refine lv_bipush (v := (nI 24)) hx hb d_Disk_fills_8 (by decide) ?_
    refine my_icmpge (tgt := 51) hx hb (x := 24) (y := 24) (by omega) (by omega) d_Disk_fills_10 (by decide) (fun c_10 => ?_) (fun c_10 => absurd c_10 (by omega))
    exact ret_v hx hb hr hlocks hK hP hD hS d_Disk_fills_51
set_option maxHeartbeats 4000000 in
set_option maxRecDepth 100000 in
theorem c_Disk_homes (l : Launch) (D : va_G) (k : Nat → ClassId) (q : Nat → Nat) (wk hm lg : Nat → Int8) (dt : Nat → Bool) (ld : Nat → Nat) (ct : Nat) (mk on : Bool) (un sh : Nat) (n : Nat) (hn : n ≤ 24) (hld : ∀ j, j < n → ld j < 24) : Cv l D (tyK k) y_Disk_homes k_Disk_homes ({ frames := 2, cells := 0, slots := 0, locals := 41 }) [.ref (q 1), .int (nI n)] (dW k q wk hm lg dt ld ct mk on un sh) (dW k q wk (hmN lg ld hm n) lg dt ld ct mk on un sh) := by
  refine open_v (by decide) (Nat.le_of_ble_eq_true rfl) ?_
  intro pg ev s m below meth c A hx hb hml hr hlocks htw hown hnm hA hS hP hK hD hN ls hl
  have hown : s.vm.findClass R_Disk = some m.cls := hown
  have hl : lv_has ls 3 [(0, .ref (q 1)), (1, .int (nI n))] := hl
  refine lv_iconst (v := (nI 0)) hx hb d_Disk_homes_0 (by decide) ?_
  refine lv_istore_n (lv' := [(2, .int (nI 0)), (0, .ref (q 1)), (1, .int (nI n))]) hx hb d_Disk_homes_1 rfl hl (by decide) rfl (fun ls hl => ?_)
  have hl := lv_sub hl [1, 2, 0] rfl
  refine loopW (nL := 3) (D := D) (A := A) (n) (fun b => dW k q wk (hmN lg ld hm b) lg dt ld ct mk on un sh) (fun b => [(0, .ref (q 1)), (1, .int (nI n)), (2, .int (nI b))]) ?_ ?_ 0 (Nat.zero_le _) _ _ _ hP hD hS hl
  · intro b hlt ih H locs ls hP hD hS hl
    have hP : va_P D classes (dW k q wk (hmN lg ld hm b) lg dt ld ct mk on un sh) H := hP
    have hD : va_D A (dW k q wk (hmN lg ld hm b) lg dt ld ct mk on un sh) := hD
    have hl : lv_has ls 3 [(0, .ref (q 1)), (1, .int (nI n)), (2, .int (nI b))] := hl
    refine lv_iload_n hx hb d_Disk_homes_2 rfl (lv_at hl 2 rfl) ?_
    refine lv_iload_n hx hb d_Disk_homes_3 rfl (lv_at hl 1 rfl) ?_
    refine my_icmpge (tgt := 31) hx hb (x := b) (y := n) (by omega) (by omega) d_Disk_homes_4 (by decide) (fun c_4 => absurd c_4 (by omega)) (fun c_4 => ?_)
    refine lv_aload_n hx hb d_Disk_homes_7 rfl (lv_at hl 0 rfl) ?_
    refine va_get (D := D) (ci := 1) (v := .ref (q 4)) (C := R_Disk) (T := F_Disk) (N := 10) hx hb htw i_Disk hown hK hP 0 rfl rfl 2 (by decide) (htw _ tw_31) (fun _ h9 => h9) rfl d_Disk_homes_8 ?_
    refine lv_iload_n hx hb d_Disk_homes_11 rfl (lv_at hl 2 rfl) ?_
    refine lv_aload_n hx hb d_Disk_homes_12 rfl (lv_at hl 0 rfl) ?_
    refine va_get (D := D) (ci := 1) (v := .ref (q 3)) (C := R_Disk) (T := F_Disk) (N := 10) hx hb htw i_Disk hown hK hP 0 rfl rfl 1 (by decide) (htw _ tw_29) (fun _ h9 => h9) rfl d_Disk_homes_13 ?_
    refine lv_aload_n hx hb d_Disk_homes_16 rfl (lv_at hl 0 rfl) ?_
    refine va_get (D := D) (ci := 1) (v := .ref (q 6)) (C := R_Disk) (T := F_Disk) (N := 10) hx hb htw i_Disk hown hK hP 0 rfl rfl 4 (by decide) (htw _ tw_34) (fun _ h9 => h9) rfl d_Disk_homes_17 ?_
    refine lv_iload_n hx hb d_Disk_homes_20 rfl (lv_at hl 2 rfl) ?_
    refine my_iald hx hb hK hP 5 2 rfl rfl (i := b) (by omega) (by decide) d_Disk_homes_21 ?_
    refine call_Sv (n := 4) (As := [.ref (q 4), .int (nI b), .ref (q 3), .int (nI (ld b))]) (ws' := dW k q wk (va_cpy lg (hmN lg ld hm b) (16 * b) (16 * (ld b)) 16) lg dt ld ct mk on un sh) ⟨hx, hb, hml, hown, htw⟩ (c_Disk_copy l D k (q 4) (q 3) lg (hmN lg ld hm b) b (ld b) (by omega) (hld b hlt)) (in_S tw_108 tw_109 tw_10 tw_110) (by decide +kernel) ⟨rfl, rfl, Nat.le_of_ble_eq_true rfl, Nat.le_of_ble_eq_true rfl⟩ hK hN hP hD hS hA [3, 2] [0, 1, 4, 5] [0, 1, 5, 4, 2, 3] rfl rfl ([oD q ct mk on un sh, aB k (q 2) wk, aZ k (q 5) dt, aN k (q 6) ld]) rfl rfl (by decide) rfl rfl hl.1 rfl rfl (Nat.le_of_ble_eq_true rfl) d_Disk_homes_22 ⟨Nat.zero_le _, Nat.zero_le _⟩ (fun H locs hP hD hS => ?_)
    rw [hmN_s] at hP hD
    refine lv_iinc (v := (nI (b + 1))) (lv' := [(2, .int (nI (b + 1))), (0, .ref (q 1)), (1, .int (nI n))]) hx hb d_Disk_homes_25 hl (k := 2) rfl (nI_add _ 1) (by decide) rfl (fun ls hl => ?_)
    refine lv_goto (tgt := 2) hx hb d_Disk_homes_28 (by decide) ?_
    exact ih _ _ _ hP hD hS (lv_sub hl [1, 2, 0] rfl)
  · intro H locs ls hP hD hS hl
    have hP : va_P D classes (dW k q wk (hmN lg ld hm n) lg dt ld ct mk on un sh) H := hP
    have hD : va_D A (dW k q wk (hmN lg ld hm n) lg dt ld ct mk on un sh) := hD
    have hl : lv_has ls 3 [(0, .ref (q 1)), (1, .int (nI n)), (2, .int (nI n))] := hl
    refine lv_iload_n hx hb d_Disk_homes_2 rfl (lv_at hl 2 rfl) ?_
    refine lv_iload_n hx hb d_Disk_homes_3 rfl (lv_at hl 1 rfl) ?_
    refine my_icmpge (tgt := 31) hx hb (x := n) (y := n) (by omega) (by omega) d_Disk_homes_4 (by decide) (fun c_4 => ?_) (fun c_4 => absurd c_4 (by omega))
    exact ret_v hx hb hr hlocks hK hP hD hS d_Disk_homes_31
set_option maxHeartbeats 4000000 in
set_option maxRecDepth 100000 in
theorem c_Disk_start_p0 (l : Launch) (D : va_G) (k : Nat → ClassId) (q : Nat → Nat) (wk hm lg : Nat → Int8) (dt : Nat → Bool) (ld : Nat → Nat) (ct : Nat) (on : Bool) (un sh : Nat) (pt : Nat) (hct : ct ≤ 24) (hld : ∀ j, j < ct → ld j < 24) (hpt : pt < 1000) : Ci l D (tyK k) y_Disk_start k_Disk_start ({ frames := 3, cells := 0, slots := 0, locals := 63 }) [.ref (q 1), .int (nI pt)] (dW k q wk hm lg dt ld ct false on un sh) (bI false) (dW k q wk (hmN lg ld hm 0) lg dt ld ct false on un sh) := by
  refine open_i (by decide) (Nat.le_of_ble_eq_true rfl) ?_
  intro pg ev s m below meth c A hx hb hml hr hlocks htw hown hnm hA hS hP hK hD hN ls hl
  have hown : s.vm.findClass R_Disk = some m.cls := hown
  have hl : lv_has ls 4 [(0, .ref (q 1)), (1, .int (nI pt))] := hl
  refine lv_aload_n hx hb d_Disk_start_0 rfl (lv_at hl 0 rfl) ?_
  refine va_get (D := D) (ci := 1) (v := .int (bI false)) (C := R_Disk) (T := F_Disk) (N := 10) hx hb htw i_Disk hown hK hP 0 rfl rfl 6 (by decide) (htw _ tw_37) (fun _ h9 => h9) rfl d_Disk_start_1 ?_
  refine my_ifne (tgt := 11) hx hb d_Disk_start_4 (by decide) (fun c => absurd c (by decide)) (fun _ => ?_)
  refine lv_iconst (v := (nI 0)) hx hb d_Disk_start_7 (by decide) ?_
  refine lv_goto (tgt := 35) hx hb d_Disk_start_8 (by decide) ?_
  refine lv_istore_n (lv' := [(2, .int (nI 0)), (0, .ref (q 1)), (1, .int (nI pt))]) hx hb d_Disk_start_35 rfl hl (by decide) rfl (fun ls hl => ?_)
  refine lv_aload_n hx hb d_Disk_start_36 rfl (lv_at hl 1 rfl) ?_
  refine lv_iload_n hx hb d_Disk_start_37 rfl (lv_at hl 0 rfl) ?_
  refine call_Vv (n := 1) (As := [.int (nI 0)]) (ws' := dW k q wk (hmN lg ld hm 0) lg dt ld ct false on un sh) ⟨hx, hb, hml, hown, htw⟩ (c_Disk_homes l D k q wk hm lg dt ld ct false on un sh 0 (by omega) (fun j hj => hld j (by omega))) (in_V tw_118 tw_120 tw_2 tw_10 tw_121) (by decide +kernel) ⟨rfl, rfl, Nat.le_of_ble_eq_true rfl, Nat.le_of_ble_eq_true rfl⟩ hK hN hP hD hS hA [0, 1, 2, 3, 4, 5] [] [0, 1, 2, 3, 4, 5] rfl rfl ([]) rfl rfl (by decide) rfl rfl 1 rfl 0 rfl hl.1 rfl rfl (Nat.le_of_ble_eq_true rfl) d_Disk_start_38 ⟨Nat.zero_le _, Nat.zero_le _⟩ (fun H locs hP hD hS => ?_)
  refine lv_iload_n hx hb d_Disk_start_41 rfl (lv_at hl 2 rfl) ?_
  refine lv_sipush (v := (nI 1000)) hx hb d_Disk_start_42 (by decide) ?_
  refine my_icmpge (tgt := 50) hx hb (x := pt) (y := 1000) (by omega) (by omega) d_Disk_start_45 (by decide) (fun c_45 => absurd c_45 (by omega)) (fun c_45 => ?_)
  refine lv_iconst (v := (nI 0)) hx hb d_Disk_start_48 (by decide) ?_
  refine lv_as (y := (bI false)) rfl ?_
  exact ret_z hx hb hr hlocks hK hP hD hS (v := false) rfl d_Disk_start_49
set_option maxHeartbeats 4000000 in
set_option maxRecDepth 100000 in
theorem c_Disk_start_w0 (l : Launch) (D : va_G) (k : Nat → ClassId) (q : Nat → Nat) (wk hm lg : Nat → Int8) (dt : Nat → Bool) (ld : Nat → Nat) (ct : Nat) (on : Bool) (un sh : Nat) (hct : ct ≤ 24) (hld : ∀ j, j < ct → ld j < 24) : Ci l D (tyK k) y_Disk_start k_Disk_start ({ frames := 3, cells := 0, slots := 0, locals := 63 }) [.ref (q 1), .int (nI 1000)] (dW k q wk hm lg dt ld ct false on un sh) (bI true) (dW k q (cpA 24 (hmN lg ld hm 0) wk) (hmN lg ld hm 0) lg (clr 24 dt) ld ct false true un sh) := by
  refine open_i (by decide) (Nat.le_of_ble_eq_true rfl) ?_
  intro pg ev s m below meth c A hx hb hml hr hlocks htw hown hnm hA hS hP hK hD hN ls hl
  have hown : s.vm.findClass R_Disk = some m.cls := hown
  have hl : lv_has ls 4 [(0, .ref (q 1)), (1, .int (nI 1000))] := hl
  refine lv_aload_n hx hb d_Disk_start_0 rfl (lv_at hl 0 rfl) ?_
  refine va_get (D := D) (ci := 1) (v := .int (bI false)) (C := R_Disk) (T := F_Disk) (N := 10) hx hb htw i_Disk hown hK hP 0 rfl rfl 6 (by decide) (htw _ tw_37) (fun _ h9 => h9) rfl d_Disk_start_1 ?_
  refine my_ifne (tgt := 11) hx hb d_Disk_start_4 (by decide) (fun c => absurd c (by decide)) (fun _ => ?_)
  refine lv_iconst (v := (nI 0)) hx hb d_Disk_start_7 (by decide) ?_
  refine lv_goto (tgt := 35) hx hb d_Disk_start_8 (by decide) ?_
  refine lv_istore_n (lv' := [(2, .int (nI 0)), (0, .ref (q 1)), (1, .int (nI 1000))]) hx hb d_Disk_start_35 rfl hl (by decide) rfl (fun ls hl => ?_)
  refine lv_aload_n hx hb d_Disk_start_36 rfl (lv_at hl 1 rfl) ?_
  refine lv_iload_n hx hb d_Disk_start_37 rfl (lv_at hl 0 rfl) ?_
  refine call_Vv (n := 1) (As := [.int (nI 0)]) (ws' := dW k q wk (hmN lg ld hm 0) lg dt ld ct false on un sh) ⟨hx, hb, hml, hown, htw⟩ (c_Disk_homes l D k q wk hm lg dt ld ct false on un sh 0 (by omega) (fun j hj => hld j (by omega))) (in_V tw_118 tw_120 tw_2 tw_10 tw_121) (by decide +kernel) ⟨rfl, rfl, Nat.le_of_ble_eq_true rfl, Nat.le_of_ble_eq_true rfl⟩ hK hN hP hD hS hA [0, 1, 2, 3, 4, 5] [] [0, 1, 2, 3, 4, 5] rfl rfl ([]) rfl rfl (by decide) rfl rfl 1 rfl 0 rfl hl.1 rfl rfl (Nat.le_of_ble_eq_true rfl) d_Disk_start_38 ⟨Nat.zero_le _, Nat.zero_le _⟩ (fun H locs hP hD hS => ?_)
  refine lv_iload_n hx hb d_Disk_start_41 rfl (lv_at hl 2 rfl) ?_
  refine lv_sipush (v := (nI 1000)) hx hb d_Disk_start_42 (by decide) ?_
  refine my_icmpge (tgt := 50) hx hb (x := 1000) (y := 1000) (by omega) (by omega) d_Disk_start_45 (by decide) (fun c_45 => ?_) (fun c_45 => absurd c_45 (by omega))
  refine lv_aload_n hx hb d_Disk_start_50 rfl (lv_at hl 1 rfl) ?_
  refine lv_iconst (v := (nI 0)) hx hb d_Disk_start_51 (by decide) ?_
  refine lv_as (y := (bI false)) rfl ?_
  refine va_put (D := D) (ci := 1) (v := .int (bI false)) (ty := .boolean) (C := R_Disk) (T := F_Disk) (N := 10) hx hb htw i_Disk t_Disk t_Disk_ok n_Disk hown hK hP hD hS 0 rfl rfl 6 (by decide) (htw _ tw_37) (fun _ h9 => h9) rfl (by decide +kernel) (bI_nar _) (bI_fit _) (Nat.le_of_ble_eq_true rfl) d_Disk_start_52 (fun H locs hP hD hS => ?_)
  have hP : va_P D classes (dW k q wk (hmN lg ld hm 0) lg dt ld ct false on un sh) H := hP
  have hD : va_D A (dW k q wk (hmN lg ld hm 0) lg dt ld ct false on un sh) := hD
  refine lv_aload_n hx hb d_Disk_start_55 rfl (lv_at hl 1 rfl) ?_
  refine lv_iconst (v := (nI 1)) hx hb d_Disk_start_56 (by decide) ?_
  refine lv_as (y := (bI true)) rfl ?_
  refine va_put (D := D) (ci := 1) (v := .int (bI true)) (ty := .boolean) (C := R_Disk) (T := F_Disk) (N := 10) hx hb htw i_Disk t_Disk t_Disk_ok n_Disk hown hK hP hD hS 0 rfl rfl 7 (by decide) (htw _ tw_39) (fun _ h9 => h9) rfl (by decide +kernel) (bI_nar _) (bI_fit _) (Nat.le_of_ble_eq_true rfl) d_Disk_start_57 (fun H locs hP hD hS => ?_)
  have hP : va_P D classes (dW k q wk (hmN lg ld hm 0) lg dt ld ct false true un sh) H := hP
  have hD : va_D A (dW k q wk (hmN lg ld hm 0) lg dt ld ct false true un sh) := hD
  refine lv_iconst (v := (nI 0)) hx hb d_Disk_start_60 (by decide) ?_
  refine lv_istore_n (lv' := [(3, .int (nI 0)), (2, .int (nI 0)), (0, .ref (q 1)), (1, .int (nI 1000))]) hx hb d_Disk_start_61 rfl hl (by decide) rfl (fun ls hl => ?_)
  have hP : va_P D classes (dW k q (cpA 0 (hmN lg ld hm 0) wk) (hmN lg ld hm 0) lg (clr 0 dt) ld ct false true un sh) H := by rw [cpA_0, clr_0]; exact hP
  have hD : va_D A (dW k q (cpA 0 (hmN lg ld hm 0) wk) (hmN lg ld hm 0) lg (clr 0 dt) ld ct false true un sh) := by rw [cpA_0, clr_0]; exact hD
  have hl := lv_sub hl [2, 3, 1, 0] rfl
  refine loopW (nL := 4) (D := D) (A := A) (24) (fun b => dW k q (cpA b (hmN lg ld hm 0) wk) (hmN lg ld hm 0) lg (clr b dt) ld ct false true un sh) (fun b => [(0, .ref (q 1)), (1, .int (nI 1000)), (2, .int (nI 0)), (3, .int (nI b))]) ?_ ?_ 0 (Nat.zero_le _) _ _ _ hP hD hS hl
  · intro b hlt ih H locs ls hP hD hS hl
    have hP : va_P D classes (dW k q (cpA b (hmN lg ld hm 0) wk) (hmN lg ld hm 0) lg (clr b dt) ld ct false true un sh) H := hP
    have hD : va_D A (dW k q (cpA b (hmN lg ld hm 0) wk) (hmN lg ld hm 0) lg (clr b dt) ld ct false true un sh) := hD
    have hl : lv_has ls 4 [(0, .ref (q 1)), (1, .int (nI 1000)), (2, .int (nI 0)), (3, .int (nI b))] := hl
    refine lv_iload_n hx hb d_Disk_start_62 rfl (lv_at hl 3 rfl) ?_
    refine lv_bipush (v := (nI 24)) hx hb d_Disk_start_63 (by decide) ?_
    refine my_icmpge (tgt := 94) hx hb (x := b) (y := 24) (by omega) (by omega) d_Disk_start_65 (by decide) (fun c_65 => absurd c_65 (by omega)) (fun c_65 => ?_)
    refine lv_aload_n hx hb d_Disk_start_68 rfl (lv_at hl 0 rfl) ?_
    refine va_get (D := D) (ci := 1) (v := .ref (q 3)) (C := R_Disk) (T := F_Disk) (N := 10) hx hb htw i_Disk hown hK hP 0 rfl rfl 1 (by decide) (htw _ tw_29) (fun _ h9 => h9) rfl d_Disk_start_69 ?_
    refine lv_iload_n hx hb d_Disk_start_72 rfl (lv_at hl 3 rfl) ?_
    refine lv_aload_n hx hb d_Disk_start_73 rfl (lv_at hl 0 rfl) ?_
    refine va_get (D := D) (ci := 1) (v := .ref (q 2)) (C := R_Disk) (T := F_Disk) (N := 10) hx hb htw i_Disk hown hK hP 0 rfl rfl 0 (by decide) (htw _ tw_27) (fun _ h9 => h9) rfl d_Disk_start_74 ?_
    refine lv_iload_n hx hb d_Disk_start_77 rfl (lv_at hl 3 rfl) ?_
    refine call_Sv (n := 4) (As := [.ref (q 3), .int (nI b), .ref (q 2), .int (nI b)]) (ws' := dW k q (va_cpy (hmN lg ld hm 0) (cpA b (hmN lg ld hm 0) wk) (16 * b) (16 * b) 16) (hmN lg ld hm 0) lg (clr b dt) ld ct false true un sh) ⟨hx, hb, hml, hown, htw⟩ (c_Disk_copy l D k (q 3) (q 2) (hmN lg ld hm 0) (cpA b (hmN lg ld hm 0) wk) b b hlt hlt) (in_S tw_108 tw_109 tw_10 tw_110) (by decide +kernel) ⟨rfl, rfl, Nat.le_of_ble_eq_true rfl, Nat.le_of_ble_eq_true rfl⟩ hK hN hP hD hS hA [2, 1] [0, 3, 4, 5] [0, 5, 4, 1, 2, 3] rfl rfl ([oD q ct false true un sh, aB k (q 4) lg, aZ k (q 5) (clr b dt), aN k (q 6) ld]) rfl rfl (by decide) rfl rfl hl.1 rfl rfl (Nat.le_of_ble_eq_true rfl) d_Disk_start_78 ⟨Nat.zero_le _, Nat.zero_le _⟩ (fun H locs hP hD hS => ?_)
    rw [cpA_s] at hP hD
    refine lv_aload_n hx hb d_Disk_start_81 rfl (lv_at hl 0 rfl) ?_
    refine va_get (D := D) (ci := 1) (v := .ref (q 5)) (C := R_Disk) (T := F_Disk) (N := 10) hx hb htw i_Disk hown hK hP 0 rfl rfl 3 (by decide) (htw _ tw_32) (fun _ h9 => h9) rfl d_Disk_start_82 ?_
    refine lv_iload_n hx hb d_Disk_start_85 rfl (lv_at hl 3 rfl) ?_
    refine lv_iconst (v := (nI 0)) hx hb d_Disk_start_86 (by decide) ?_
    refine lv_as (y := (bI false)) rfl ?_
    refine my_zast hx hb hK hP hD hS 4 1 rfl rfl (i := b) (v := false) (by omega) (by decide) d_Disk_start_87 (fun H locs hP hD hS => ?_)
    have hP : va_P D classes (dW k q (cpA (b + 1) (hmN lg ld hm 0) wk) (hmN lg ld hm 0) lg (va_up (clr b dt) b false) ld ct false true un sh) H := hP
    have hD : va_D A (dW k q (cpA (b + 1) (hmN lg ld hm 0) wk) (hmN lg ld hm 0) lg (va_up (clr b dt) b false) ld ct false true un sh) := hD
    rw [clr_s] at hP hD
    refine lv_iinc (v := (nI (b + 1))) (lv' := [(3, .int (nI (b + 1))), (0, .ref (q 1)), (1, .int (nI 1000)), (2, .int (nI 0))]) hx hb d_Disk_start_88 hl (k := 3) rfl (nI_add _ 1) (by decide) rfl (fun ls hl => ?_)
    refine lv_goto (tgt := 62) hx hb d_Disk_start_91 (by decide) ?_
    exact ih _ _ _ hP hD hS (lv_sub hl [1, 2, 3, 0] rfl)
  · intro H locs ls hP hD hS hl
    have hP : va_P D classes (dW k q (cpA 24 (hmN lg ld hm 0) wk) (hmN lg ld hm 0) lg (clr 24 dt) ld ct false true un sh) H := hP
    have hD : va_D A (dW k q (cpA 24 (hmN lg ld hm 0) wk) (hmN lg ld hm 0) lg (clr 24 dt) ld ct false true un sh) := hD
    have hl : lv_has ls 4 [(0, .ref (q 1)), (1, .int (nI 1000)), (2, .int (nI 0)), (3, .int (nI 24))] := hl
    refine lv_iload_n hx hb d_Disk_start_62 rfl (lv_at hl 3 rfl) ?_
    refine lv_bipush (v := (nI 24)) hx hb d_Disk_start_63 (by decide) ?_
    refine my_icmpge (tgt := 94) hx hb (x := 24) (y := 24) (by omega) (by omega) d_Disk_start_65 (by decide) (fun c_65 => ?_) (fun c_65 => absurd c_65 (by omega))
    refine lv_iconst (v := (nI 1)) hx hb d_Disk_start_94 (by decide) ?_
    refine lv_as (y := (bI true)) rfl ?_
    exact ret_z hx hb hr hlocks hK hP hD hS (v := true) rfl d_Disk_start_95
set_option maxHeartbeats 4000000 in
set_option maxRecDepth 100000 in
theorem c_Disk_start_p1 (l : Launch) (D : va_G) (k : Nat → ClassId) (q : Nat → Nat) (wk hm lg : Nat → Int8) (dt : Nat → Bool) (ld : Nat → Nat) (ct : Nat) (on : Bool) (un sh : Nat) (pt : Nat) (hct : ct ≤ 24) (hld : ∀ j, j < ct → ld j < 24) (hpt : pt < 1000) : Ci l D (tyK k) y_Disk_start k_Disk_start ({ frames := 3, cells := 0, slots := 0, locals := 63 }) [.ref (q 1), .int (nI pt)] (dW k q wk hm lg dt ld ct true on un sh) (bI false) (dW k q wk (hmN lg ld hm ((ct * pt) / 1000)) lg dt ld ct true on un sh) := by
  refine open_i (by decide) (Nat.le_of_ble_eq_true rfl) ?_
  intro pg ev s m below meth c A hx hb hml hr hlocks htw hown hnm hA hS hP hK hD hN ls hl
  have hown : s.vm.findClass R_Disk = some m.cls := hown
  have hl : lv_has ls 4 [(0, .ref (q 1)), (1, .int (nI pt))] := hl
  have hdv : ct * pt / 1000 ≤ ct := div_b (by omega)
  have hml2 := mul_b hct (show pt ≤ 1000 by omega)
  refine lv_aload_n hx hb d_Disk_start_0 rfl (lv_at hl 0 rfl) ?_
  refine va_get (D := D) (ci := 1) (v := .int (bI true)) (C := R_Disk) (T := F_Disk) (N := 10) hx hb htw i_Disk hown hK hP 0 rfl rfl 6 (by decide) (htw _ tw_37) (fun _ h9 => h9) rfl d_Disk_start_1 ?_
  refine my_ifne (tgt := 11) hx hb d_Disk_start_4 (by decide) (fun _ => ?_) (fun c => absurd c (by decide))
  refine lv_iload_n hx hb d_Disk_start_11 rfl (lv_at hl 1 rfl) ?_
  refine lv_sipush (v := (nI 1000)) hx hb d_Disk_start_12 (by decide) ?_
  refine my_icmpne (tgt := 25) hx hb (x := pt) (y := 1000) (by omega) (by omega) d_Disk_start_15 (by decide) (fun c_15 => ?_) (fun c_15 => absurd c_15 (by omega))
  refine lv_aload_n hx hb d_Disk_start_25 rfl (lv_at hl 0 rfl) ?_
  refine va_get (D := D) (ci := 1) (v := .int (nI ct)) (C := R_Disk) (T := F_Disk) (N := 10) hx hb htw i_Disk hown hK hP 0 rfl rfl 5 (by decide) (htw _ tw_35) (fun _ h9 => h9) rfl d_Disk_start_26 ?_
  refine lv_iload_n hx hb d_Disk_start_29 rfl (lv_at hl 1 rfl) ?_
  refine my_imul hx hb (x := ct) (y := pt) d_Disk_start_30 ?_
  refine lv_sipush (v := (nI 1000)) hx hb d_Disk_start_31 (by decide) ?_
  refine my_idiv hx hb (x := ct * pt) (y := 1000) (by omega) (by omega) (by omega) d_Disk_start_34 ?_
  refine lv_istore_n (lv' := [(2, .int (nI ((ct * pt) / 1000))), (0, .ref (q 1)), (1, .int (nI pt))]) hx hb d_Disk_start_35 rfl hl (by decide) rfl (fun ls hl => ?_)
  refine lv_aload_n hx hb d_Disk_start_36 rfl (lv_at hl 1 rfl) ?_
  refine lv_iload_n hx hb d_Disk_start_37 rfl (lv_at hl 0 rfl) ?_
  refine call_Vv (n := 1) (As := [.int (nI ((ct * pt) / 1000))]) (ws' := dW k q wk (hmN lg ld hm ((ct * pt) / 1000)) lg dt ld ct true on un sh) ⟨hx, hb, hml, hown, htw⟩ (c_Disk_homes l D k q wk hm lg dt ld ct true on un sh ((ct * pt) / 1000) (by omega) (fun j hj => hld j (by omega))) (in_V tw_118 tw_120 tw_2 tw_10 tw_121) (by decide +kernel) ⟨rfl, rfl, Nat.le_of_ble_eq_true rfl, Nat.le_of_ble_eq_true rfl⟩ hK hN hP hD hS hA [0, 1, 2, 3, 4, 5] [] [0, 1, 2, 3, 4, 5] rfl rfl ([]) rfl rfl (by decide) rfl rfl 1 rfl 0 rfl hl.1 rfl rfl (Nat.le_of_ble_eq_true rfl) d_Disk_start_38 ⟨Nat.zero_le _, Nat.zero_le _⟩ (fun H locs hP hD hS => ?_)
  refine lv_iload_n hx hb d_Disk_start_41 rfl (lv_at hl 2 rfl) ?_
  refine lv_sipush (v := (nI 1000)) hx hb d_Disk_start_42 (by decide) ?_
  refine my_icmpge (tgt := 50) hx hb (x := pt) (y := 1000) (by omega) (by omega) d_Disk_start_45 (by decide) (fun c_45 => absurd c_45 (by omega)) (fun c_45 => ?_)
  refine lv_iconst (v := (nI 0)) hx hb d_Disk_start_48 (by decide) ?_
  refine lv_as (y := (bI false)) rfl ?_
  exact ret_z hx hb hr hlocks hK hP hD hS (v := false) rfl d_Disk_start_49
set_option maxHeartbeats 4000000 in
set_option maxRecDepth 100000 in
theorem c_Disk_start_w1 (l : Launch) (D : va_G) (k : Nat → ClassId) (q : Nat → Nat) (wk hm lg : Nat → Int8) (dt : Nat → Bool) (ld : Nat → Nat) (ct : Nat) (on : Bool) (un sh : Nat) (hct : ct ≤ 24) (hld : ∀ j, j < ct → ld j < 24) : Ci l D (tyK k) y_Disk_start k_Disk_start ({ frames := 3, cells := 0, slots := 0, locals := 63 }) [.ref (q 1), .int (nI 1000)] (dW k q wk hm lg dt ld ct true on un sh) (bI true) (dW k q (cpA 24 (hmN lg ld hm ct) wk) (hmN lg ld hm ct) lg (clr 24 dt) ld ct false true un sh) := by
  refine open_i (by decide) (Nat.le_of_ble_eq_true rfl) ?_
  intro pg ev s m below meth c A hx hb hml hr hlocks htw hown hnm hA hS hP hK hD hN ls hl
  have hown : s.vm.findClass R_Disk = some m.cls := hown
  have hl : lv_has ls 4 [(0, .ref (q 1)), (1, .int (nI 1000))] := hl
  refine lv_aload_n hx hb d_Disk_start_0 rfl (lv_at hl 0 rfl) ?_
  refine va_get (D := D) (ci := 1) (v := .int (bI true)) (C := R_Disk) (T := F_Disk) (N := 10) hx hb htw i_Disk hown hK hP 0 rfl rfl 6 (by decide) (htw _ tw_37) (fun _ h9 => h9) rfl d_Disk_start_1 ?_
  refine my_ifne (tgt := 11) hx hb d_Disk_start_4 (by decide) (fun _ => ?_) (fun c => absurd c (by decide))
  refine lv_iload_n hx hb d_Disk_start_11 rfl (lv_at hl 1 rfl) ?_
  refine lv_sipush (v := (nI 1000)) hx hb d_Disk_start_12 (by decide) ?_
  refine my_icmpne (tgt := 25) hx hb (x := 1000) (y := 1000) (by omega) (by omega) d_Disk_start_15 (by decide) (fun c_15 => absurd c_15 (by omega)) (fun c_15 => ?_)
  refine lv_aload_n hx hb d_Disk_start_18 rfl (lv_at hl 0 rfl) ?_
  refine va_get (D := D) (ci := 1) (v := .int (nI ct)) (C := R_Disk) (T := F_Disk) (N := 10) hx hb htw i_Disk hown hK hP 0 rfl rfl 5 (by decide) (htw _ tw_35) (fun _ h9 => h9) rfl d_Disk_start_19 ?_
  refine lv_goto (tgt := 35) hx hb d_Disk_start_22 (by decide) ?_
  refine lv_istore_n (lv' := [(2, .int (nI ct)), (0, .ref (q 1)), (1, .int (nI 1000))]) hx hb d_Disk_start_35 rfl hl (by decide) rfl (fun ls hl => ?_)
  refine lv_aload_n hx hb d_Disk_start_36 rfl (lv_at hl 1 rfl) ?_
  refine lv_iload_n hx hb d_Disk_start_37 rfl (lv_at hl 0 rfl) ?_
  refine call_Vv (n := 1) (As := [.int (nI ct)]) (ws' := dW k q wk (hmN lg ld hm ct) lg dt ld ct true on un sh) ⟨hx, hb, hml, hown, htw⟩ (c_Disk_homes l D k q wk hm lg dt ld ct true on un sh ct (by omega) (fun j hj => hld j (by omega))) (in_V tw_118 tw_120 tw_2 tw_10 tw_121) (by decide +kernel) ⟨rfl, rfl, Nat.le_of_ble_eq_true rfl, Nat.le_of_ble_eq_true rfl⟩ hK hN hP hD hS hA [0, 1, 2, 3, 4, 5] [] [0, 1, 2, 3, 4, 5] rfl rfl ([]) rfl rfl (by decide) rfl rfl 1 rfl 0 rfl hl.1 rfl rfl (Nat.le_of_ble_eq_true rfl) d_Disk_start_38 ⟨Nat.zero_le _, Nat.zero_le _⟩ (fun H locs hP hD hS => ?_)
  refine lv_iload_n hx hb d_Disk_start_41 rfl (lv_at hl 2 rfl) ?_
  refine lv_sipush (v := (nI 1000)) hx hb d_Disk_start_42 (by decide) ?_
  refine my_icmpge (tgt := 50) hx hb (x := 1000) (y := 1000) (by omega) (by omega) d_Disk_start_45 (by decide) (fun c_45 => ?_) (fun c_45 => absurd c_45 (by omega))
  refine lv_aload_n hx hb d_Disk_start_50 rfl (lv_at hl 1 rfl) ?_
  refine lv_iconst (v := (nI 0)) hx hb d_Disk_start_51 (by decide) ?_
  refine lv_as (y := (bI false)) rfl ?_
  refine va_put (D := D) (ci := 1) (v := .int (bI false)) (ty := .boolean) (C := R_Disk) (T := F_Disk) (N := 10) hx hb htw i_Disk t_Disk t_Disk_ok n_Disk hown hK hP hD hS 0 rfl rfl 6 (by decide) (htw _ tw_37) (fun _ h9 => h9) rfl (by decide +kernel) (bI_nar _) (bI_fit _) (Nat.le_of_ble_eq_true rfl) d_Disk_start_52 (fun H locs hP hD hS => ?_)
  have hP : va_P D classes (dW k q wk (hmN lg ld hm ct) lg dt ld ct false on un sh) H := hP
  have hD : va_D A (dW k q wk (hmN lg ld hm ct) lg dt ld ct false on un sh) := hD
  refine lv_aload_n hx hb d_Disk_start_55 rfl (lv_at hl 1 rfl) ?_
  refine lv_iconst (v := (nI 1)) hx hb d_Disk_start_56 (by decide) ?_
  refine lv_as (y := (bI true)) rfl ?_
  refine va_put (D := D) (ci := 1) (v := .int (bI true)) (ty := .boolean) (C := R_Disk) (T := F_Disk) (N := 10) hx hb htw i_Disk t_Disk t_Disk_ok n_Disk hown hK hP hD hS 0 rfl rfl 7 (by decide) (htw _ tw_39) (fun _ h9 => h9) rfl (by decide +kernel) (bI_nar _) (bI_fit _) (Nat.le_of_ble_eq_true rfl) d_Disk_start_57 (fun H locs hP hD hS => ?_)
  have hP : va_P D classes (dW k q wk (hmN lg ld hm ct) lg dt ld ct false true un sh) H := hP
  have hD : va_D A (dW k q wk (hmN lg ld hm ct) lg dt ld ct false true un sh) := hD
  refine lv_iconst (v := (nI 0)) hx hb d_Disk_start_60 (by decide) ?_
  refine lv_istore_n (lv' := [(3, .int (nI 0)), (2, .int (nI ct)), (0, .ref (q 1)), (1, .int (nI 1000))]) hx hb d_Disk_start_61 rfl hl (by decide) rfl (fun ls hl => ?_)
  have hP : va_P D classes (dW k q (cpA 0 (hmN lg ld hm ct) wk) (hmN lg ld hm ct) lg (clr 0 dt) ld ct false true un sh) H := by rw [cpA_0, clr_0]; exact hP
  have hD : va_D A (dW k q (cpA 0 (hmN lg ld hm ct) wk) (hmN lg ld hm ct) lg (clr 0 dt) ld ct false true un sh) := by rw [cpA_0, clr_0]; exact hD
  have hl := lv_sub hl [2, 3, 1, 0] rfl
  refine loopW (nL := 4) (D := D) (A := A) (24) (fun b => dW k q (cpA b (hmN lg ld hm ct) wk) (hmN lg ld hm ct) lg (clr b dt) ld ct false true un sh) (fun b => [(0, .ref (q 1)), (1, .int (nI 1000)), (2, .int (nI ct)), (3, .int (nI b))]) ?_ ?_ 0 (Nat.zero_le _) _ _ _ hP hD hS hl
  · intro b hlt ih H locs ls hP hD hS hl
    have hP : va_P D classes (dW k q (cpA b (hmN lg ld hm ct) wk) (hmN lg ld hm ct) lg (clr b dt) ld ct false true un sh) H := hP
    have hD : va_D A (dW k q (cpA b (hmN lg ld hm ct) wk) (hmN lg ld hm ct) lg (clr b dt) ld ct false true un sh) := hD
    have hl : lv_has ls 4 [(0, .ref (q 1)), (1, .int (nI 1000)), (2, .int (nI ct)), (3, .int (nI b))] := hl
    refine lv_iload_n hx hb d_Disk_start_62 rfl (lv_at hl 3 rfl) ?_
    refine lv_bipush (v := (nI 24)) hx hb d_Disk_start_63 (by decide) ?_
    refine my_icmpge (tgt := 94) hx hb (x := b) (y := 24) (by omega) (by omega) d_Disk_start_65 (by decide) (fun c_65 => absurd c_65 (by omega)) (fun c_65 => ?_)
    refine lv_aload_n hx hb d_Disk_start_68 rfl (lv_at hl 0 rfl) ?_
    refine va_get (D := D) (ci := 1) (v := .ref (q 3)) (C := R_Disk) (T := F_Disk) (N := 10) hx hb htw i_Disk hown hK hP 0 rfl rfl 1 (by decide) (htw _ tw_29) (fun _ h9 => h9) rfl d_Disk_start_69 ?_
    refine lv_iload_n hx hb d_Disk_start_72 rfl (lv_at hl 3 rfl) ?_
    refine lv_aload_n hx hb d_Disk_start_73 rfl (lv_at hl 0 rfl) ?_
    refine va_get (D := D) (ci := 1) (v := .ref (q 2)) (C := R_Disk) (T := F_Disk) (N := 10) hx hb htw i_Disk hown hK hP 0 rfl rfl 0 (by decide) (htw _ tw_27) (fun _ h9 => h9) rfl d_Disk_start_74 ?_
    refine lv_iload_n hx hb d_Disk_start_77 rfl (lv_at hl 3 rfl) ?_
    refine call_Sv (n := 4) (As := [.ref (q 3), .int (nI b), .ref (q 2), .int (nI b)]) (ws' := dW k q (va_cpy (hmN lg ld hm ct) (cpA b (hmN lg ld hm ct) wk) (16 * b) (16 * b) 16) (hmN lg ld hm ct) lg (clr b dt) ld ct false true un sh) ⟨hx, hb, hml, hown, htw⟩ (c_Disk_copy l D k (q 3) (q 2) (hmN lg ld hm ct) (cpA b (hmN lg ld hm ct) wk) b b hlt hlt) (in_S tw_108 tw_109 tw_10 tw_110) (by decide +kernel) ⟨rfl, rfl, Nat.le_of_ble_eq_true rfl, Nat.le_of_ble_eq_true rfl⟩ hK hN hP hD hS hA [2, 1] [0, 3, 4, 5] [0, 5, 4, 1, 2, 3] rfl rfl ([oD q ct false true un sh, aB k (q 4) lg, aZ k (q 5) (clr b dt), aN k (q 6) ld]) rfl rfl (by decide) rfl rfl hl.1 rfl rfl (Nat.le_of_ble_eq_true rfl) d_Disk_start_78 ⟨Nat.zero_le _, Nat.zero_le _⟩ (fun H locs hP hD hS => ?_)
    rw [cpA_s] at hP hD
    refine lv_aload_n hx hb d_Disk_start_81 rfl (lv_at hl 0 rfl) ?_
    refine va_get (D := D) (ci := 1) (v := .ref (q 5)) (C := R_Disk) (T := F_Disk) (N := 10) hx hb htw i_Disk hown hK hP 0 rfl rfl 3 (by decide) (htw _ tw_32) (fun _ h9 => h9) rfl d_Disk_start_82 ?_
    refine lv_iload_n hx hb d_Disk_start_85 rfl (lv_at hl 3 rfl) ?_
    refine lv_iconst (v := (nI 0)) hx hb d_Disk_start_86 (by decide) ?_
    refine lv_as (y := (bI false)) rfl ?_
    refine my_zast hx hb hK hP hD hS 4 1 rfl rfl (i := b) (v := false) (by omega) (by decide) d_Disk_start_87 (fun H locs hP hD hS => ?_)
    have hP : va_P D classes (dW k q (cpA (b + 1) (hmN lg ld hm ct) wk) (hmN lg ld hm ct) lg (va_up (clr b dt) b false) ld ct false true un sh) H := hP
    have hD : va_D A (dW k q (cpA (b + 1) (hmN lg ld hm ct) wk) (hmN lg ld hm ct) lg (va_up (clr b dt) b false) ld ct false true un sh) := hD
    rw [clr_s] at hP hD
    refine lv_iinc (v := (nI (b + 1))) (lv' := [(3, .int (nI (b + 1))), (0, .ref (q 1)), (1, .int (nI 1000)), (2, .int (nI ct))]) hx hb d_Disk_start_88 hl (k := 3) rfl (nI_add _ 1) (by decide) rfl (fun ls hl => ?_)
    refine lv_goto (tgt := 62) hx hb d_Disk_start_91 (by decide) ?_
    exact ih _ _ _ hP hD hS (lv_sub hl [1, 2, 3, 0] rfl)
  · intro H locs ls hP hD hS hl
    have hP : va_P D classes (dW k q (cpA 24 (hmN lg ld hm ct) wk) (hmN lg ld hm ct) lg (clr 24 dt) ld ct false true un sh) H := hP
    have hD : va_D A (dW k q (cpA 24 (hmN lg ld hm ct) wk) (hmN lg ld hm ct) lg (clr 24 dt) ld ct false true un sh) := hD
    have hl : lv_has ls 4 [(0, .ref (q 1)), (1, .int (nI 1000)), (2, .int (nI ct)), (3, .int (nI 24))] := hl
    refine lv_iload_n hx hb d_Disk_start_62 rfl (lv_at hl 3 rfl) ?_
    refine lv_bipush (v := (nI 24)) hx hb d_Disk_start_63 (by decide) ?_
    refine my_icmpge (tgt := 94) hx hb (x := 24) (y := 24) (by omega) (by omega) d_Disk_start_65 (by decide) (fun c_65 => ?_) (fun c_65 => absurd c_65 (by omega))
    refine lv_iconst (v := (nI 1)) hx hb d_Disk_start_94 (by decide) ?_
    refine lv_as (y := (bI true)) rfl ?_
    exact ret_z hx hb hr hlocks hK hP hD hS (v := true) rfl d_Disk_start_95
set_option maxHeartbeats 4000000 in
set_option maxRecDepth 100000 in
theorem c_Disk_commit_A (l : Launch) (D : va_G) (k : Nat → ClassId) (q : Nat → Nat) (wk hm lg : Nat → Int8) (dt : Nat → Bool) (ld : Nat → Nat) (ct : Nat) (mk on : Bool) (sh : Nat) (hsh : sh < 500) : Ci l D (tyK k) y_Disk_commit k_Disk_commit ({ frames := 3, cells := 0, slots := 0, locals := 63 }) [.ref (q 1)] (dW k q wk hm lg dt ld ct mk on 1 sh) (bI false) (dW k q wk hm (lgN wk (fl dt ld 24) lg ((cnt dt 24 * sh) / 500)) dt (fl dt ld 24) (cnt dt 24) mk false 0 sh) := by
  refine open_i (by decide) (Nat.le_of_ble_eq_true rfl) ?_
  intro pg ev s m below meth c A hx hb hml hr hlocks htw hown hnm hA hS hP hK hD hN ls hl
  have hown : s.vm.findClass R_Disk = some m.cls := hown
  have hl : lv_has ls 4 [(0, .ref (q 1))] := hl
  have hc24 := cnt_le dt 24
  have hfl := fl_lt dt ld 24
  have hdv : cnt dt 24 * sh / 500 ≤ cnt dt 24 := div_b (by omega)
  have hmu := mul_b hc24 (show sh ≤ 1000 by omega)
  refine lv_aload_n hx hb d_Disk_commit_0 rfl (lv_at hl 0 rfl) ?_
  refine call_Vv (n := 0) (As := []) (ws' := dW k q wk hm lg dt (fl dt ld 24) (cnt dt 24) mk on 1 sh) ⟨hx, hb, hml, hown, htw⟩ (c_Disk_fills l D k q wk hm lg dt ld ct mk on 1 sh) (in_V tw_104 tw_106 tw_0 tw_10 tw_107) (by decide +kernel) ⟨rfl, rfl, Nat.le_of_ble_eq_true rfl, Nat.le_of_ble_eq_true rfl⟩ hK hN hP hD hS hA [0, 1, 2, 3, 4, 5] [] [0, 1, 2, 3, 4, 5] rfl rfl ([]) rfl rfl (by decide) rfl rfl 1 rfl 0 rfl hl.1 rfl rfl (Nat.le_of_ble_eq_true rfl) d_Disk_commit_1 ⟨Nat.zero_le _, Nat.zero_le _⟩ (fun H locs hP hD hS => ?_)
  refine lv_aload_n hx hb d_Disk_commit_4 rfl (lv_at hl 0 rfl) ?_
  refine va_get (D := D) (ci := 1) (v := .int (nI 1)) (C := R_Disk) (T := F_Disk) (N := 10) hx hb htw i_Disk hown hK hP 0 rfl rfl 8 (by decide) (htw _ tw_41) (fun _ h9 => h9) rfl d_Disk_commit_5 ?_
  refine lv_iconst (v := (nI 1)) hx hb d_Disk_commit_8 (by decide) ?_
  refine my_icmpne (tgt := 16) hx hb (x := 1) (y := 1) (by omega) (by omega) d_Disk_commit_9 (by decide) (fun c_9 => absurd c_9 (by omega)) (fun c_9 => ?_)
  refine lv_iconst (v := (nI 1)) hx hb d_Disk_commit_12 (by decide) ?_
  refine lv_goto (tgt := 17) hx hb d_Disk_commit_13 (by decide) ?_
  refine lv_istore_n (lv' := [(1, .int (nI 1)), (0, .ref (q 1))]) hx hb d_Disk_commit_17 rfl hl (by decide) rfl (fun ls hl => ?_)
  refine lv_aload_n hx hb d_Disk_commit_18 rfl (lv_at hl 1 rfl) ?_
  refine lv_dup hx hb d_Disk_commit_19 rfl ?_
  refine va_get (D := D) (ci := 1) (v := .int (nI 1)) (C := R_Disk) (T := F_Disk) (N := 10) hx hb htw i_Disk hown hK hP 0 rfl rfl 8 (by decide) (htw _ tw_41) (fun _ h9 => h9) rfl d_Disk_commit_20 ?_
  refine lv_aload_n hx hb d_Disk_commit_23 rfl (lv_at hl 1 rfl) ?_
  refine va_get (D := D) (ci := 1) (v := .int (nI 1)) (C := R_Disk) (T := F_Disk) (N := 10) hx hb htw i_Disk hown hK hP 0 rfl rfl 8 (by decide) (htw _ tw_41) (fun _ h9 => h9) rfl d_Disk_commit_24 ?_
  refine lv_if_le (tgt := 34) hx hb d_Disk_commit_27 (by decide) (fun c_27 => absurd c_27 (by decide)) (fun c_27 => ?_)
  refine lv_iconst (v := (nI 1)) hx hb d_Disk_commit_30 (by decide) ?_
  refine lv_goto (tgt := 35) hx hb d_Disk_commit_31 (by decide) ?_
  refine my_isub hx hb (x := 1) (y := 1) (by omega) d_Disk_commit_35 ?_
  refine va_put (D := D) (ci := 1) (v := .int (nI (1 - 1))) (ty := .int) (C := R_Disk) (T := F_Disk) (N := 10) hx hb htw i_Disk t_Disk t_Disk_ok n_Disk hown hK hP hD hS 0 rfl rfl 8 (by decide) (htw _ tw_41) (fun _ h9 => h9) rfl (by decide +kernel) rfl rfl (Nat.le_of_ble_eq_true rfl) d_Disk_commit_36 (fun H locs hP hD hS => ?_)
  have hP : va_P D classes (dW k q wk hm lg dt (fl dt ld 24) (cnt dt 24) mk on (1 - 1) sh) H := hP
  have hD : va_D A (dW k q wk hm lg dt (fl dt ld 24) (cnt dt 24) mk on (1 - 1) sh) := hD
  have hP : va_P D classes (dW k q wk hm lg dt (fl dt ld 24) (cnt dt 24) mk on 0 sh) H := hP
  have hD : va_D A (dW k q wk hm lg dt (fl dt ld 24) (cnt dt 24) mk on 0 sh) := hD
  refine lv_iload_n hx hb d_Disk_commit_39 rfl (lv_at hl 0 rfl) ?_
  refine lv_as (y := (bI true)) rfl ?_
  refine my_ifeq (tgt := 69) hx hb d_Disk_commit_40 (by decide) (fun c => absurd c (by decide)) (fun _ => ?_)
  refine lv_aload_n hx hb d_Disk_commit_43 rfl (lv_at hl 1 rfl) ?_
  refine va_get (D := D) (ci := 1) (v := .int (nI sh)) (C := R_Disk) (T := F_Disk) (N := 10) hx hb htw i_Disk hown hK hP 0 rfl rfl 9 (by decide) (htw _ tw_43) (fun _ h9 => h9) rfl d_Disk_commit_44 ?_
  refine lv_sipush (v := (nI 500)) hx hb d_Disk_commit_47 (by decide) ?_
  refine my_icmpge (tgt := 69) hx hb (x := sh) (y := 500) (by omega) (by omega) d_Disk_commit_50 (by decide) (fun c_50 => absurd c_50 (by omega)) (fun c_50 => ?_)
  refine lv_aload_n hx hb d_Disk_commit_53 rfl (lv_at hl 1 rfl) ?_
  refine va_get (D := D) (ci := 1) (v := .int (nI (cnt dt 24))) (C := R_Disk) (T := F_Disk) (N := 10) hx hb htw i_Disk hown hK hP 0 rfl rfl 5 (by decide) (htw _ tw_35) (fun _ h9 => h9) rfl d_Disk_commit_54 ?_
  refine lv_aload_n hx hb d_Disk_commit_57 rfl (lv_at hl 1 rfl) ?_
  refine va_get (D := D) (ci := 1) (v := .int (nI sh)) (C := R_Disk) (T := F_Disk) (N := 10) hx hb htw i_Disk hown hK hP 0 rfl rfl 9 (by decide) (htw _ tw_43) (fun _ h9 => h9) rfl d_Disk_commit_58 ?_
  refine my_imul hx hb (x := cnt dt 24) (y := sh) d_Disk_commit_61 ?_
  refine lv_sipush (v := (nI 500)) hx hb d_Disk_commit_62 (by decide) ?_
  refine my_idiv hx hb (x := (cnt dt 24) * sh) (y := 500) (by omega) (by omega) (by omega) d_Disk_commit_65 ?_
  refine lv_goto (tgt := 73) hx hb d_Disk_commit_66 (by decide) ?_
  refine lv_istore_n (lv' := [(2, .int (nI (((cnt dt 24) * sh) / 500))), (1, .int (nI 1)), (0, .ref (q 1))]) hx hb d_Disk_commit_73 rfl hl (by decide) rfl (fun ls hl => ?_)
  refine lv_iconst (v := (nI 0)) hx hb d_Disk_commit_74 (by decide) ?_
  refine lv_istore_n (lv' := [(3, .int (nI 0)), (2, .int (nI (((cnt dt 24) * sh) / 500))), (1, .int (nI 1)), (0, .ref (q 1))]) hx hb d_Disk_commit_75 rfl hl (by decide) rfl (fun ls hl => ?_)
  have hl := lv_sub hl [3, 2, 1, 0] rfl
  refine loopW (nL := 4) (D := D) (A := A) ((cnt dt 24 * sh) / 500) (fun b => dW k q wk hm (lgN wk (fl dt ld 24) lg b) dt (fl dt ld 24) (cnt dt 24) mk on 0 sh) (fun b => [(0, .ref (q 1)), (1, .int (nI 1)), (2, .int (nI ((cnt dt 24 * sh) / 500))), (3, .int (nI b))]) ?_ ?_ 0 (Nat.zero_le _) _ _ _ hP hD hS hl
  · intro b hlt ih H locs ls hP hD hS hl
    have hP : va_P D classes (dW k q wk hm (lgN wk (fl dt ld 24) lg b) dt (fl dt ld 24) (cnt dt 24) mk on 0 sh) H := hP
    have hD : va_D A (dW k q wk hm (lgN wk (fl dt ld 24) lg b) dt (fl dt ld 24) (cnt dt 24) mk on 0 sh) := hD
    have hl : lv_has ls 4 [(0, .ref (q 1)), (1, .int (nI 1)), (2, .int (nI ((cnt dt 24 * sh) / 500))), (3, .int (nI b))] := hl
    refine lv_iload_n hx hb d_Disk_commit_76 rfl (lv_at hl 3 rfl) ?_
    refine lv_iload_n hx hb d_Disk_commit_77 rfl (lv_at hl 2 rfl) ?_
    refine my_icmpge (tgt := 105) hx hb (x := b) (y := (cnt dt 24 * sh) / 500) (by omega) (by omega) d_Disk_commit_78 (by decide) (fun c_78 => absurd c_78 (by omega)) (fun c_78 => ?_)
    refine lv_aload_n hx hb d_Disk_commit_81 rfl (lv_at hl 0 rfl) ?_
    refine va_get (D := D) (ci := 1) (v := .ref (q 2)) (C := R_Disk) (T := F_Disk) (N := 10) hx hb htw i_Disk hown hK hP 0 rfl rfl 0 (by decide) (htw _ tw_27) (fun _ h9 => h9) rfl d_Disk_commit_82 ?_
    refine lv_aload_n hx hb d_Disk_commit_85 rfl (lv_at hl 0 rfl) ?_
    refine va_get (D := D) (ci := 1) (v := .ref (q 6)) (C := R_Disk) (T := F_Disk) (N := 10) hx hb htw i_Disk hown hK hP 0 rfl rfl 4 (by decide) (htw _ tw_34) (fun _ h9 => h9) rfl d_Disk_commit_86 ?_
    refine lv_iload_n hx hb d_Disk_commit_89 rfl (lv_at hl 3 rfl) ?_
    refine my_iald hx hb hK hP 5 2 rfl rfl (i := b) (by omega) (by decide) d_Disk_commit_90 ?_
    refine lv_aload_n hx hb d_Disk_commit_91 rfl (lv_at hl 0 rfl) ?_
    refine va_get (D := D) (ci := 1) (v := .ref (q 4)) (C := R_Disk) (T := F_Disk) (N := 10) hx hb htw i_Disk hown hK hP 0 rfl rfl 2 (by decide) (htw _ tw_31) (fun _ h9 => h9) rfl d_Disk_commit_92 ?_
    refine lv_iload_n hx hb d_Disk_commit_95 rfl (lv_at hl 3 rfl) ?_
    refine call_Sv (n := 4) (As := [.ref (q 2), .int (nI ((fl dt ld 24) b)), .ref (q 4), .int (nI b)]) (ws' := dW k q wk hm (va_cpy wk (lgN wk (fl dt ld 24) lg b) (16 * (fl dt ld 24 b)) (16 * b) 16) dt (fl dt ld 24) (cnt dt 24) mk on 0 sh) ⟨hx, hb, hml, hown, htw⟩ (c_Disk_copy l D k (q 2) (q 4) wk (lgN wk (fl dt ld 24) lg b) (fl dt ld 24 b) b (hfl b (by omega)) (by omega)) (in_S tw_108 tw_109 tw_10 tw_110) (by decide +kernel) ⟨rfl, rfl, Nat.le_of_ble_eq_true rfl, Nat.le_of_ble_eq_true rfl⟩ hK hN hP hD hS hA [1, 3] [0, 2, 4, 5] [0, 4, 1, 5, 2, 3] rfl rfl ([oD q (cnt dt 24) mk on 0 sh, aB k (q 3) hm, aZ k (q 5) dt, aN k (q 6) (fl dt ld 24)]) rfl rfl (by decide) rfl rfl hl.1 rfl rfl (Nat.le_of_ble_eq_true rfl) d_Disk_commit_96 ⟨Nat.zero_le _, Nat.zero_le _⟩ (fun H locs hP hD hS => ?_)
    rw [lgN_s] at hP hD
    refine lv_iinc (v := (nI (b + 1))) (lv' := [(3, .int (nI (b + 1))), (0, .ref (q 1)), (1, .int (nI 1)), (2, .int (nI ((cnt dt 24 * sh) / 500)))]) hx hb d_Disk_commit_99 hl (k := 3) rfl (nI_add _ 1) (by decide) rfl (fun ls hl => ?_)
    refine lv_goto (tgt := 76) hx hb d_Disk_commit_102 (by decide) ?_
    exact ih _ _ _ hP hD hS (lv_sub hl [1, 2, 3, 0] rfl)
  · intro H locs ls hP hD hS hl
    have hP : va_P D classes (dW k q wk hm (lgN wk (fl dt ld 24) lg ((cnt dt 24 * sh) / 500)) dt (fl dt ld 24) (cnt dt 24) mk on 0 sh) H := hP
    have hD : va_D A (dW k q wk hm (lgN wk (fl dt ld 24) lg ((cnt dt 24 * sh) / 500)) dt (fl dt ld 24) (cnt dt 24) mk on 0 sh) := hD
    have hl : lv_has ls 4 [(0, .ref (q 1)), (1, .int (nI 1)), (2, .int (nI ((cnt dt 24 * sh) / 500))), (3, .int (nI ((cnt dt 24 * sh) / 500)))] := hl
    refine lv_iload_n hx hb d_Disk_commit_76 rfl (lv_at hl 3 rfl) ?_
    refine lv_iload_n hx hb d_Disk_commit_77 rfl (lv_at hl 2 rfl) ?_
    refine my_icmpge (tgt := 105) hx hb (x := (cnt dt 24 * sh) / 500) (y := (cnt dt 24 * sh) / 500) (by omega) (by omega) d_Disk_commit_78 (by decide) (fun c_78 => ?_) (fun c_78 => absurd c_78 (by omega))
    refine lv_iload_n hx hb d_Disk_commit_105 rfl (lv_at hl 1 rfl) ?_
    refine lv_as (y := (bI true)) rfl ?_
    refine my_ifeq (tgt := 124) hx hb d_Disk_commit_106 (by decide) (fun c => absurd c (by decide)) (fun _ => ?_)
    refine lv_aload_n hx hb d_Disk_commit_109 rfl (lv_at hl 0 rfl) ?_
    refine va_get (D := D) (ci := 1) (v := .int (nI sh)) (C := R_Disk) (T := F_Disk) (N := 10) hx hb htw i_Disk hown hK hP 0 rfl rfl 9 (by decide) (htw _ tw_43) (fun _ h9 => h9) rfl d_Disk_commit_110 ?_
    refine lv_sipush (v := (nI 500)) hx hb d_Disk_commit_113 (by decide) ?_
    refine my_icmpge (tgt := 124) hx hb (x := sh) (y := 500) (by omega) (by omega) d_Disk_commit_116 (by decide) (fun c_116 => absurd c_116 (by omega)) (fun c_116 => ?_)
    refine lv_aload_n hx hb d_Disk_commit_119 rfl (lv_at hl 0 rfl) ?_
    refine call_Vi (n := 0) (As := []) (ws' := dW k q wk hm (lgN wk (fl dt ld 24) lg ((cnt dt 24 * sh) / 500)) dt (fl dt ld 24) (cnt dt 24) mk false 0 sh) ⟨hx, hb, hml, hown, htw⟩ (c_Disk_off l D k q wk hm (lgN wk (fl dt ld 24) lg ((cnt dt 24 * sh) / 500)) dt (fl dt ld 24) (cnt dt 24) mk on 0 sh) (in_V tw_114 tw_116 tw_1 tw_10 tw_117) (by decide +kernel) ⟨rfl, rfl, Nat.le_of_ble_eq_true rfl, Nat.le_of_ble_eq_true rfl⟩ hK hN hP hD hS hA [0, 1, 2, 3, 4, 5] [] [0, 1, 2, 3, 4, 5] rfl rfl ([]) rfl rfl (by decide) rfl rfl 1 rfl 0 rfl hl.1 rfl rfl (Nat.le_of_ble_eq_true rfl) d_Disk_commit_120 ⟨Nat.zero_le _, Nat.zero_le _⟩ (fun H locs hP hD hS => ?_)
    exact ret_z hx hb hr hlocks hK hP hD hS (v := false) rfl d_Disk_commit_123
set_option maxHeartbeats 4000000 in
set_option maxRecDepth 100000 in
theorem c_Disk_commit_B (l : Launch) (D : va_G) (k : Nat → ClassId) (q : Nat → Nat) (wk hm lg : Nat → Int8) (dt : Nat → Bool) (ld : Nat → Nat) (ct : Nat) (mk on : Bool) (sh : Nat) (hsh : 500 ≤ sh) (hs2 : sh < 1000) : Ci l D (tyK k) y_Disk_commit k_Disk_commit ({ frames := 3, cells := 0, slots := 0, locals := 63 }) [.ref (q 1)] (dW k q wk hm lg dt ld ct mk on 1 sh) (bI false) (dW k q wk (hmN (lgN wk (fl dt ld 24) lg (cnt dt 24)) (fl dt ld 24) hm ((cnt dt 24 * (sh - 500)) / 500)) (lgN wk (fl dt ld 24) lg (cnt dt 24)) dt (fl dt ld 24) (cnt dt 24) true false 0 sh) := by
  refine open_i (by decide) (Nat.le_of_ble_eq_true rfl) ?_
  intro pg ev s m below meth c A hx hb hml hr hlocks htw hown hnm hA hS hP hK hD hN ls hl
  have hown : s.vm.findClass R_Disk = some m.cls := hown
  have hl : lv_has ls 4 [(0, .ref (q 1))] := hl
  have hc24 := cnt_le dt 24
  have hfl := fl_lt dt ld 24
  have hdv : cnt dt 24 * (sh - 500) / 500 ≤ cnt dt 24 := div_b (by omega)
  have hmu := mul_b hc24 (show sh - 500 ≤ 1000 by omega)
  refine lv_aload_n hx hb d_Disk_commit_0 rfl (lv_at hl 0 rfl) ?_
  refine call_Vv (n := 0) (As := []) (ws' := dW k q wk hm lg dt (fl dt ld 24) (cnt dt 24) mk on 1 sh) ⟨hx, hb, hml, hown, htw⟩ (c_Disk_fills l D k q wk hm lg dt ld ct mk on 1 sh) (in_V tw_104 tw_106 tw_0 tw_10 tw_107) (by decide +kernel) ⟨rfl, rfl, Nat.le_of_ble_eq_true rfl, Nat.le_of_ble_eq_true rfl⟩ hK hN hP hD hS hA [0, 1, 2, 3, 4, 5] [] [0, 1, 2, 3, 4, 5] rfl rfl ([]) rfl rfl (by decide) rfl rfl 1 rfl 0 rfl hl.1 rfl rfl (Nat.le_of_ble_eq_true rfl) d_Disk_commit_1 ⟨Nat.zero_le _, Nat.zero_le _⟩ (fun H locs hP hD hS => ?_)
  refine lv_aload_n hx hb d_Disk_commit_4 rfl (lv_at hl 0 rfl) ?_
  refine va_get (D := D) (ci := 1) (v := .int (nI 1)) (C := R_Disk) (T := F_Disk) (N := 10) hx hb htw i_Disk hown hK hP 0 rfl rfl 8 (by decide) (htw _ tw_41) (fun _ h9 => h9) rfl d_Disk_commit_5 ?_
  refine lv_iconst (v := (nI 1)) hx hb d_Disk_commit_8 (by decide) ?_
  refine my_icmpne (tgt := 16) hx hb (x := 1) (y := 1) (by omega) (by omega) d_Disk_commit_9 (by decide) (fun c_9 => absurd c_9 (by omega)) (fun c_9 => ?_)
  refine lv_iconst (v := (nI 1)) hx hb d_Disk_commit_12 (by decide) ?_
  refine lv_goto (tgt := 17) hx hb d_Disk_commit_13 (by decide) ?_
  refine lv_istore_n (lv' := [(1, .int (nI 1)), (0, .ref (q 1))]) hx hb d_Disk_commit_17 rfl hl (by decide) rfl (fun ls hl => ?_)
  refine lv_aload_n hx hb d_Disk_commit_18 rfl (lv_at hl 1 rfl) ?_
  refine lv_dup hx hb d_Disk_commit_19 rfl ?_
  refine va_get (D := D) (ci := 1) (v := .int (nI 1)) (C := R_Disk) (T := F_Disk) (N := 10) hx hb htw i_Disk hown hK hP 0 rfl rfl 8 (by decide) (htw _ tw_41) (fun _ h9 => h9) rfl d_Disk_commit_20 ?_
  refine lv_aload_n hx hb d_Disk_commit_23 rfl (lv_at hl 1 rfl) ?_
  refine va_get (D := D) (ci := 1) (v := .int (nI 1)) (C := R_Disk) (T := F_Disk) (N := 10) hx hb htw i_Disk hown hK hP 0 rfl rfl 8 (by decide) (htw _ tw_41) (fun _ h9 => h9) rfl d_Disk_commit_24 ?_
  refine lv_if_le (tgt := 34) hx hb d_Disk_commit_27 (by decide) (fun c_27 => absurd c_27 (by decide)) (fun c_27 => ?_)
  refine lv_iconst (v := (nI 1)) hx hb d_Disk_commit_30 (by decide) ?_
  refine lv_goto (tgt := 35) hx hb d_Disk_commit_31 (by decide) ?_
  refine my_isub hx hb (x := 1) (y := 1) (by omega) d_Disk_commit_35 ?_
  refine va_put (D := D) (ci := 1) (v := .int (nI (1 - 1))) (ty := .int) (C := R_Disk) (T := F_Disk) (N := 10) hx hb htw i_Disk t_Disk t_Disk_ok n_Disk hown hK hP hD hS 0 rfl rfl 8 (by decide) (htw _ tw_41) (fun _ h9 => h9) rfl (by decide +kernel) rfl rfl (Nat.le_of_ble_eq_true rfl) d_Disk_commit_36 (fun H locs hP hD hS => ?_)
  have hP : va_P D classes (dW k q wk hm lg dt (fl dt ld 24) (cnt dt 24) mk on (1 - 1) sh) H := hP
  have hD : va_D A (dW k q wk hm lg dt (fl dt ld 24) (cnt dt 24) mk on (1 - 1) sh) := hD
  have hP : va_P D classes (dW k q wk hm lg dt (fl dt ld 24) (cnt dt 24) mk on 0 sh) H := hP
  have hD : va_D A (dW k q wk hm lg dt (fl dt ld 24) (cnt dt 24) mk on 0 sh) := hD
  refine lv_iload_n hx hb d_Disk_commit_39 rfl (lv_at hl 0 rfl) ?_
  refine lv_as (y := (bI true)) rfl ?_
  refine my_ifeq (tgt := 69) hx hb d_Disk_commit_40 (by decide) (fun c => absurd c (by decide)) (fun _ => ?_)
  refine lv_aload_n hx hb d_Disk_commit_43 rfl (lv_at hl 1 rfl) ?_
  refine va_get (D := D) (ci := 1) (v := .int (nI sh)) (C := R_Disk) (T := F_Disk) (N := 10) hx hb htw i_Disk hown hK hP 0 rfl rfl 9 (by decide) (htw _ tw_43) (fun _ h9 => h9) rfl d_Disk_commit_44 ?_
  refine lv_sipush (v := (nI 500)) hx hb d_Disk_commit_47 (by decide) ?_
  refine my_icmpge (tgt := 69) hx hb (x := sh) (y := 500) (by omega) (by omega) d_Disk_commit_50 (by decide) (fun c_50 => ?_) (fun c_50 => absurd c_50 (by omega))
  refine lv_aload_n hx hb d_Disk_commit_69 rfl (lv_at hl 1 rfl) ?_
  refine va_get (D := D) (ci := 1) (v := .int (nI (cnt dt 24))) (C := R_Disk) (T := F_Disk) (N := 10) hx hb htw i_Disk hown hK hP 0 rfl rfl 5 (by decide) (htw _ tw_35) (fun _ h9 => h9) rfl d_Disk_commit_70 ?_
  refine lv_istore_n (lv' := [(2, .int (nI (cnt dt 24))), (1, .int (nI 1)), (0, .ref (q 1))]) hx hb d_Disk_commit_73 rfl hl (by decide) rfl (fun ls hl => ?_)
  refine lv_iconst (v := (nI 0)) hx hb d_Disk_commit_74 (by decide) ?_
  refine lv_istore_n (lv' := [(3, .int (nI 0)), (2, .int (nI (cnt dt 24))), (1, .int (nI 1)), (0, .ref (q 1))]) hx hb d_Disk_commit_75 rfl hl (by decide) rfl (fun ls hl => ?_)
  have hl := lv_sub hl [3, 2, 1, 0] rfl
  refine loopW (nL := 4) (D := D) (A := A) (cnt dt 24) (fun b => dW k q wk hm (lgN wk (fl dt ld 24) lg b) dt (fl dt ld 24) (cnt dt 24) mk on 0 sh) (fun b => [(0, .ref (q 1)), (1, .int (nI 1)), (2, .int (nI (cnt dt 24))), (3, .int (nI b))]) ?_ ?_ 0 (Nat.zero_le _) _ _ _ hP hD hS hl
  · intro b hlt ih H locs ls hP hD hS hl
    have hP : va_P D classes (dW k q wk hm (lgN wk (fl dt ld 24) lg b) dt (fl dt ld 24) (cnt dt 24) mk on 0 sh) H := hP
    have hD : va_D A (dW k q wk hm (lgN wk (fl dt ld 24) lg b) dt (fl dt ld 24) (cnt dt 24) mk on 0 sh) := hD
    have hl : lv_has ls 4 [(0, .ref (q 1)), (1, .int (nI 1)), (2, .int (nI (cnt dt 24))), (3, .int (nI b))] := hl
    refine lv_iload_n hx hb d_Disk_commit_76 rfl (lv_at hl 3 rfl) ?_
    refine lv_iload_n hx hb d_Disk_commit_77 rfl (lv_at hl 2 rfl) ?_
    refine my_icmpge (tgt := 105) hx hb (x := b) (y := cnt dt 24) (by omega) (by omega) d_Disk_commit_78 (by decide) (fun c_78 => absurd c_78 (by omega)) (fun c_78 => ?_)
    refine lv_aload_n hx hb d_Disk_commit_81 rfl (lv_at hl 0 rfl) ?_
    refine va_get (D := D) (ci := 1) (v := .ref (q 2)) (C := R_Disk) (T := F_Disk) (N := 10) hx hb htw i_Disk hown hK hP 0 rfl rfl 0 (by decide) (htw _ tw_27) (fun _ h9 => h9) rfl d_Disk_commit_82 ?_
    refine lv_aload_n hx hb d_Disk_commit_85 rfl (lv_at hl 0 rfl) ?_
    refine va_get (D := D) (ci := 1) (v := .ref (q 6)) (C := R_Disk) (T := F_Disk) (N := 10) hx hb htw i_Disk hown hK hP 0 rfl rfl 4 (by decide) (htw _ tw_34) (fun _ h9 => h9) rfl d_Disk_commit_86 ?_
    refine lv_iload_n hx hb d_Disk_commit_89 rfl (lv_at hl 3 rfl) ?_
    refine my_iald hx hb hK hP 5 2 rfl rfl (i := b) (by omega) (by decide) d_Disk_commit_90 ?_
    refine lv_aload_n hx hb d_Disk_commit_91 rfl (lv_at hl 0 rfl) ?_
    refine va_get (D := D) (ci := 1) (v := .ref (q 4)) (C := R_Disk) (T := F_Disk) (N := 10) hx hb htw i_Disk hown hK hP 0 rfl rfl 2 (by decide) (htw _ tw_31) (fun _ h9 => h9) rfl d_Disk_commit_92 ?_
    refine lv_iload_n hx hb d_Disk_commit_95 rfl (lv_at hl 3 rfl) ?_
    refine call_Sv (n := 4) (As := [.ref (q 2), .int (nI ((fl dt ld 24) b)), .ref (q 4), .int (nI b)]) (ws' := dW k q wk hm (va_cpy wk (lgN wk (fl dt ld 24) lg b) (16 * (fl dt ld 24 b)) (16 * b) 16) dt (fl dt ld 24) (cnt dt 24) mk on 0 sh) ⟨hx, hb, hml, hown, htw⟩ (c_Disk_copy l D k (q 2) (q 4) wk (lgN wk (fl dt ld 24) lg b) (fl dt ld 24 b) b (hfl b (by omega)) (by omega)) (in_S tw_108 tw_109 tw_10 tw_110) (by decide +kernel) ⟨rfl, rfl, Nat.le_of_ble_eq_true rfl, Nat.le_of_ble_eq_true rfl⟩ hK hN hP hD hS hA [1, 3] [0, 2, 4, 5] [0, 4, 1, 5, 2, 3] rfl rfl ([oD q (cnt dt 24) mk on 0 sh, aB k (q 3) hm, aZ k (q 5) dt, aN k (q 6) (fl dt ld 24)]) rfl rfl (by decide) rfl rfl hl.1 rfl rfl (Nat.le_of_ble_eq_true rfl) d_Disk_commit_96 ⟨Nat.zero_le _, Nat.zero_le _⟩ (fun H locs hP hD hS => ?_)
    rw [lgN_s] at hP hD
    refine lv_iinc (v := (nI (b + 1))) (lv' := [(3, .int (nI (b + 1))), (0, .ref (q 1)), (1, .int (nI 1)), (2, .int (nI (cnt dt 24)))]) hx hb d_Disk_commit_99 hl (k := 3) rfl (nI_add _ 1) (by decide) rfl (fun ls hl => ?_)
    refine lv_goto (tgt := 76) hx hb d_Disk_commit_102 (by decide) ?_
    exact ih _ _ _ hP hD hS (lv_sub hl [1, 2, 3, 0] rfl)
  · intro H locs ls hP hD hS hl
    have hP : va_P D classes (dW k q wk hm (lgN wk (fl dt ld 24) lg (cnt dt 24)) dt (fl dt ld 24) (cnt dt 24) mk on 0 sh) H := hP
    have hD : va_D A (dW k q wk hm (lgN wk (fl dt ld 24) lg (cnt dt 24)) dt (fl dt ld 24) (cnt dt 24) mk on 0 sh) := hD
    have hl : lv_has ls 4 [(0, .ref (q 1)), (1, .int (nI 1)), (2, .int (nI (cnt dt 24))), (3, .int (nI (cnt dt 24)))] := hl
    refine lv_iload_n hx hb d_Disk_commit_76 rfl (lv_at hl 3 rfl) ?_
    refine lv_iload_n hx hb d_Disk_commit_77 rfl (lv_at hl 2 rfl) ?_
    refine my_icmpge (tgt := 105) hx hb (x := cnt dt 24) (y := cnt dt 24) (by omega) (by omega) d_Disk_commit_78 (by decide) (fun c_78 => ?_) (fun c_78 => absurd c_78 (by omega))
    refine lv_iload_n hx hb d_Disk_commit_105 rfl (lv_at hl 1 rfl) ?_
    refine lv_as (y := (bI true)) rfl ?_
    refine my_ifeq (tgt := 124) hx hb d_Disk_commit_106 (by decide) (fun c => absurd c (by decide)) (fun _ => ?_)
    refine lv_aload_n hx hb d_Disk_commit_109 rfl (lv_at hl 0 rfl) ?_
    refine va_get (D := D) (ci := 1) (v := .int (nI sh)) (C := R_Disk) (T := F_Disk) (N := 10) hx hb htw i_Disk hown hK hP 0 rfl rfl 9 (by decide) (htw _ tw_43) (fun _ h9 => h9) rfl d_Disk_commit_110 ?_
    refine lv_sipush (v := (nI 500)) hx hb d_Disk_commit_113 (by decide) ?_
    refine my_icmpge (tgt := 124) hx hb (x := sh) (y := 500) (by omega) (by omega) d_Disk_commit_116 (by decide) (fun c_116 => ?_) (fun c_116 => absurd c_116 (by omega))
    refine lv_aload_n hx hb d_Disk_commit_124 rfl (lv_at hl 0 rfl) ?_
    refine lv_iconst (v := (nI 1)) hx hb d_Disk_commit_125 (by decide) ?_
    refine lv_as (y := (bI true)) rfl ?_
    refine va_put (D := D) (ci := 1) (v := .int (bI true)) (ty := .boolean) (C := R_Disk) (T := F_Disk) (N := 10) hx hb htw i_Disk t_Disk t_Disk_ok n_Disk hown hK hP hD hS 0 rfl rfl 6 (by decide) (htw _ tw_37) (fun _ h9 => h9) rfl (by decide +kernel) (bI_nar _) (bI_fit _) (Nat.le_of_ble_eq_true rfl) d_Disk_commit_126 (fun H locs hP hD hS => ?_)
    have hP : va_P D classes (dW k q wk hm (lgN wk (fl dt ld 24) lg (cnt dt 24)) dt (fl dt ld 24) (cnt dt 24) true on 0 sh) H := hP
    have hD : va_D A (dW k q wk hm (lgN wk (fl dt ld 24) lg (cnt dt 24)) dt (fl dt ld 24) (cnt dt 24) true on 0 sh) := hD
    refine lv_aload_n hx hb d_Disk_commit_129 rfl (lv_at hl 0 rfl) ?_
    refine lv_iload_n hx hb d_Disk_commit_130 rfl (lv_at hl 1 rfl) ?_
    refine lv_as (y := (bI true)) rfl ?_
    refine my_ifeq (tgt := 154) hx hb d_Disk_commit_131 (by decide) (fun c => absurd c (by decide)) (fun _ => ?_)
    refine lv_aload_n hx hb d_Disk_commit_134 rfl (lv_at hl 0 rfl) ?_
    refine va_get (D := D) (ci := 1) (v := .int (nI (cnt dt 24))) (C := R_Disk) (T := F_Disk) (N := 10) hx hb htw i_Disk hown hK hP 0 rfl rfl 5 (by decide) (htw _ tw_35) (fun _ h9 => h9) rfl d_Disk_commit_135 ?_
    refine lv_aload_n hx hb d_Disk_commit_138 rfl (lv_at hl 0 rfl) ?_
    refine va_get (D := D) (ci := 1) (v := .int (nI sh)) (C := R_Disk) (T := F_Disk) (N := 10) hx hb htw i_Disk hown hK hP 0 rfl rfl 9 (by decide) (htw _ tw_43) (fun _ h9 => h9) rfl d_Disk_commit_139 ?_
    refine lv_sipush (v := (nI 500)) hx hb d_Disk_commit_142 (by decide) ?_
    refine my_isub hx hb (x := sh) (y := 500) (by omega) d_Disk_commit_145 ?_
    refine my_imul hx hb (x := cnt dt 24) (y := sh - 500) d_Disk_commit_146 ?_
    refine lv_sipush (v := (nI 500)) hx hb d_Disk_commit_147 (by decide) ?_
    refine my_idiv hx hb (x := (cnt dt 24) * (sh - 500)) (y := 500) (by omega) (by omega) (by omega) d_Disk_commit_150 ?_
    refine lv_goto (tgt := 158) hx hb d_Disk_commit_151 (by decide) ?_
    refine call_Vv (n := 1) (As := [.int (nI (((cnt dt 24) * (sh - 500)) / 500))]) (ws' := dW k q wk (hmN (lgN wk (fl dt ld 24) lg (cnt dt 24)) (fl dt ld 24) hm ((cnt dt 24 * (sh - 500)) / 500)) (lgN wk (fl dt ld 24) lg (cnt dt 24)) dt (fl dt ld 24) (cnt dt 24) true on 0 sh) ⟨hx, hb, hml, hown, htw⟩ (c_Disk_homes l D k q wk hm (lgN wk (fl dt ld 24) lg (cnt dt 24)) dt (fl dt ld 24) (cnt dt 24) true on 0 sh ((cnt dt 24 * (sh - 500)) / 500) (by omega) (fun j hj => hfl j (by omega))) (in_V tw_118 tw_120 tw_2 tw_10 tw_121) (by decide +kernel) ⟨rfl, rfl, Nat.le_of_ble_eq_true rfl, Nat.le_of_ble_eq_true rfl⟩ hK hN hP hD hS hA [0, 1, 2, 3, 4, 5] [] [0, 1, 2, 3, 4, 5] rfl rfl ([]) rfl rfl (by decide) rfl rfl 1 rfl 0 rfl hl.1 rfl rfl (Nat.le_of_ble_eq_true rfl) d_Disk_commit_158 ⟨Nat.zero_le _, Nat.zero_le _⟩ (fun H locs hP hD hS => ?_)
    refine lv_iload_n hx hb d_Disk_commit_161 rfl (lv_at hl 1 rfl) ?_
    refine lv_as (y := (bI true)) rfl ?_
    refine my_ifeq (tgt := 170) hx hb d_Disk_commit_162 (by decide) (fun c => absurd c (by decide)) (fun _ => ?_)
    refine lv_aload_n hx hb d_Disk_commit_165 rfl (lv_at hl 0 rfl) ?_
    refine call_Vi (n := 0) (As := []) (ws' := dW k q wk (hmN (lgN wk (fl dt ld 24) lg (cnt dt 24)) (fl dt ld 24) hm ((cnt dt 24 * (sh - 500)) / 500)) (lgN wk (fl dt ld 24) lg (cnt dt 24)) dt (fl dt ld 24) (cnt dt 24) true false 0 sh) ⟨hx, hb, hml, hown, htw⟩ (c_Disk_off l D k q wk (hmN (lgN wk (fl dt ld 24) lg (cnt dt 24)) (fl dt ld 24) hm ((cnt dt 24 * (sh - 500)) / 500)) (lgN wk (fl dt ld 24) lg (cnt dt 24)) dt (fl dt ld 24) (cnt dt 24) true on 0 sh) (in_V tw_114 tw_116 tw_1 tw_10 tw_117) (by decide +kernel) ⟨rfl, rfl, Nat.le_of_ble_eq_true rfl, Nat.le_of_ble_eq_true rfl⟩ hK hN hP hD hS hA [0, 1, 2, 3, 4, 5] [] [0, 1, 2, 3, 4, 5] rfl rfl ([]) rfl rfl (by decide) rfl rfl 1 rfl 0 rfl hl.1 rfl rfl (Nat.le_of_ble_eq_true rfl) d_Disk_commit_166 ⟨Nat.zero_le _, Nat.zero_le _⟩ (fun H locs hP hD hS => ?_)
    exact ret_z hx hb hr hlocks hK hP hD hS (v := false) rfl d_Disk_commit_169
set_option maxHeartbeats 4000000 in
set_option maxRecDepth 100000 in
theorem c_Disk_commit_C (l : Launch) (D : va_G) (k : Nat → ClassId) (q : Nat → Nat) (wk hm lg : Nat → Int8) (dt : Nat → Bool) (ld : Nat → Nat) (ct : Nat) (mk on : Bool) (sh : Nat) : Ci l D (tyK k) y_Disk_commit k_Disk_commit ({ frames := 3, cells := 0, slots := 0, locals := 63 }) [.ref (q 1)] (dW k q wk hm lg dt ld ct mk on 0 sh) (bI true) (dW k q wk (hmN (lgN wk (fl dt ld 24) lg (cnt dt 24)) (fl dt ld 24) hm (cnt dt 24)) (lgN wk (fl dt ld 24) lg (cnt dt 24)) (dcl (fl dt ld 24) dt (cnt dt 24)) (fl dt ld 24) (cnt dt 24) false on 0 sh) := by
  refine open_i (by decide) (Nat.le_of_ble_eq_true rfl) ?_
  intro pg ev s m below meth c A hx hb hml hr hlocks htw hown hnm hA hS hP hK hD hN ls hl
  have hown : s.vm.findClass R_Disk = some m.cls := hown
  have hl : lv_has ls 4 [(0, .ref (q 1))] := hl
  have hc24 := cnt_le dt 24
  have hfl := fl_lt dt ld 24
  refine lv_aload_n hx hb d_Disk_commit_0 rfl (lv_at hl 0 rfl) ?_
  refine call_Vv (n := 0) (As := []) (ws' := dW k q wk hm lg dt (fl dt ld 24) (cnt dt 24) mk on 0 sh) ⟨hx, hb, hml, hown, htw⟩ (c_Disk_fills l D k q wk hm lg dt ld ct mk on 0 sh) (in_V tw_104 tw_106 tw_0 tw_10 tw_107) (by decide +kernel) ⟨rfl, rfl, Nat.le_of_ble_eq_true rfl, Nat.le_of_ble_eq_true rfl⟩ hK hN hP hD hS hA [0, 1, 2, 3, 4, 5] [] [0, 1, 2, 3, 4, 5] rfl rfl ([]) rfl rfl (by decide) rfl rfl 1 rfl 0 rfl hl.1 rfl rfl (Nat.le_of_ble_eq_true rfl) d_Disk_commit_1 ⟨Nat.zero_le _, Nat.zero_le _⟩ (fun H locs hP hD hS => ?_)
  refine lv_aload_n hx hb d_Disk_commit_4 rfl (lv_at hl 0 rfl) ?_
  refine va_get (D := D) (ci := 1) (v := .int (nI 0)) (C := R_Disk) (T := F_Disk) (N := 10) hx hb htw i_Disk hown hK hP 0 rfl rfl 8 (by decide) (htw _ tw_41) (fun _ h9 => h9) rfl d_Disk_commit_5 ?_
  refine lv_iconst (v := (nI 1)) hx hb d_Disk_commit_8 (by decide) ?_
  refine my_icmpne (tgt := 16) hx hb (x := 0) (y := 1) (by omega) (by omega) d_Disk_commit_9 (by decide) (fun c_9 => ?_) (fun c_9 => absurd c_9 (by omega))
  refine lv_iconst (v := (nI 0)) hx hb d_Disk_commit_16 (by decide) ?_
  refine lv_istore_n (lv' := [(1, .int (nI 0)), (0, .ref (q 1))]) hx hb d_Disk_commit_17 rfl hl (by decide) rfl (fun ls hl => ?_)
  refine lv_aload_n hx hb d_Disk_commit_18 rfl (lv_at hl 1 rfl) ?_
  refine lv_dup hx hb d_Disk_commit_19 rfl ?_
  refine va_get (D := D) (ci := 1) (v := .int (nI 0)) (C := R_Disk) (T := F_Disk) (N := 10) hx hb htw i_Disk hown hK hP 0 rfl rfl 8 (by decide) (htw _ tw_41) (fun _ h9 => h9) rfl d_Disk_commit_20 ?_
  refine lv_aload_n hx hb d_Disk_commit_23 rfl (lv_at hl 1 rfl) ?_
  refine va_get (D := D) (ci := 1) (v := .int (nI 0)) (C := R_Disk) (T := F_Disk) (N := 10) hx hb htw i_Disk hown hK hP 0 rfl rfl 8 (by decide) (htw _ tw_41) (fun _ h9 => h9) rfl d_Disk_commit_24 ?_
  refine lv_if_le (tgt := 34) hx hb d_Disk_commit_27 (by decide) (fun c_27 => ?_) (fun c_27 => absurd (by decide) c_27)
  refine lv_iconst (v := (nI 0)) hx hb d_Disk_commit_34 (by decide) ?_
  refine my_isub hx hb (x := 0) (y := 0) (by omega) d_Disk_commit_35 ?_
  refine va_put (D := D) (ci := 1) (v := .int (nI (0 - 0))) (ty := .int) (C := R_Disk) (T := F_Disk) (N := 10) hx hb htw i_Disk t_Disk t_Disk_ok n_Disk hown hK hP hD hS 0 rfl rfl 8 (by decide) (htw _ tw_41) (fun _ h9 => h9) rfl (by decide +kernel) rfl rfl (Nat.le_of_ble_eq_true rfl) d_Disk_commit_36 (fun H locs hP hD hS => ?_)
  have hP : va_P D classes (dW k q wk hm lg dt (fl dt ld 24) (cnt dt 24) mk on (0 - 0) sh) H := hP
  have hD : va_D A (dW k q wk hm lg dt (fl dt ld 24) (cnt dt 24) mk on (0 - 0) sh) := hD
  have hP : va_P D classes (dW k q wk hm lg dt (fl dt ld 24) (cnt dt 24) mk on 0 sh) H := hP
  have hD : va_D A (dW k q wk hm lg dt (fl dt ld 24) (cnt dt 24) mk on 0 sh) := hD
  refine lv_iload_n hx hb d_Disk_commit_39 rfl (lv_at hl 0 rfl) ?_
  refine lv_as (y := (bI false)) rfl ?_
  refine my_ifeq (tgt := 69) hx hb d_Disk_commit_40 (by decide) (fun _ => ?_) (fun c => absurd c (by decide))
  refine lv_aload_n hx hb d_Disk_commit_69 rfl (lv_at hl 1 rfl) ?_
  refine va_get (D := D) (ci := 1) (v := .int (nI (cnt dt 24))) (C := R_Disk) (T := F_Disk) (N := 10) hx hb htw i_Disk hown hK hP 0 rfl rfl 5 (by decide) (htw _ tw_35) (fun _ h9 => h9) rfl d_Disk_commit_70 ?_
  refine lv_istore_n (lv' := [(2, .int (nI (cnt dt 24))), (1, .int (nI 0)), (0, .ref (q 1))]) hx hb d_Disk_commit_73 rfl hl (by decide) rfl (fun ls hl => ?_)
  refine lv_iconst (v := (nI 0)) hx hb d_Disk_commit_74 (by decide) ?_
  refine lv_istore_n (lv' := [(3, .int (nI 0)), (2, .int (nI (cnt dt 24))), (1, .int (nI 0)), (0, .ref (q 1))]) hx hb d_Disk_commit_75 rfl hl (by decide) rfl (fun ls hl => ?_)
  have hl := lv_sub hl [3, 2, 1, 0] rfl
  refine loopW (nL := 4) (D := D) (A := A) (cnt dt 24) (fun b => dW k q wk hm (lgN wk (fl dt ld 24) lg b) dt (fl dt ld 24) (cnt dt 24) mk on 0 sh) (fun b => [(0, .ref (q 1)), (1, .int (nI 0)), (2, .int (nI (cnt dt 24))), (3, .int (nI b))]) ?_ ?_ 0 (Nat.zero_le _) _ _ _ hP hD hS hl
  · intro b hlt ih H locs ls hP hD hS hl
    have hP : va_P D classes (dW k q wk hm (lgN wk (fl dt ld 24) lg b) dt (fl dt ld 24) (cnt dt 24) mk on 0 sh) H := hP
    have hD : va_D A (dW k q wk hm (lgN wk (fl dt ld 24) lg b) dt (fl dt ld 24) (cnt dt 24) mk on 0 sh) := hD
    have hl : lv_has ls 4 [(0, .ref (q 1)), (1, .int (nI 0)), (2, .int (nI (cnt dt 24))), (3, .int (nI b))] := hl
    refine lv_iload_n hx hb d_Disk_commit_76 rfl (lv_at hl 3 rfl) ?_
    refine lv_iload_n hx hb d_Disk_commit_77 rfl (lv_at hl 2 rfl) ?_
    refine my_icmpge (tgt := 105) hx hb (x := b) (y := cnt dt 24) (by omega) (by omega) d_Disk_commit_78 (by decide) (fun c_78 => absurd c_78 (by omega)) (fun c_78 => ?_)
    refine lv_aload_n hx hb d_Disk_commit_81 rfl (lv_at hl 0 rfl) ?_
    refine va_get (D := D) (ci := 1) (v := .ref (q 2)) (C := R_Disk) (T := F_Disk) (N := 10) hx hb htw i_Disk hown hK hP 0 rfl rfl 0 (by decide) (htw _ tw_27) (fun _ h9 => h9) rfl d_Disk_commit_82 ?_
    refine lv_aload_n hx hb d_Disk_commit_85 rfl (lv_at hl 0 rfl) ?_
    refine va_get (D := D) (ci := 1) (v := .ref (q 6)) (C := R_Disk) (T := F_Disk) (N := 10) hx hb htw i_Disk hown hK hP 0 rfl rfl 4 (by decide) (htw _ tw_34) (fun _ h9 => h9) rfl d_Disk_commit_86 ?_
    refine lv_iload_n hx hb d_Disk_commit_89 rfl (lv_at hl 3 rfl) ?_
    refine my_iald hx hb hK hP 5 2 rfl rfl (i := b) (by omega) (by decide) d_Disk_commit_90 ?_
    refine lv_aload_n hx hb d_Disk_commit_91 rfl (lv_at hl 0 rfl) ?_
    refine va_get (D := D) (ci := 1) (v := .ref (q 4)) (C := R_Disk) (T := F_Disk) (N := 10) hx hb htw i_Disk hown hK hP 0 rfl rfl 2 (by decide) (htw _ tw_31) (fun _ h9 => h9) rfl d_Disk_commit_92 ?_
    refine lv_iload_n hx hb d_Disk_commit_95 rfl (lv_at hl 3 rfl) ?_
    refine call_Sv (n := 4) (As := [.ref (q 2), .int (nI ((fl dt ld 24) b)), .ref (q 4), .int (nI b)]) (ws' := dW k q wk hm (va_cpy wk (lgN wk (fl dt ld 24) lg b) (16 * (fl dt ld 24 b)) (16 * b) 16) dt (fl dt ld 24) (cnt dt 24) mk on 0 sh) ⟨hx, hb, hml, hown, htw⟩ (c_Disk_copy l D k (q 2) (q 4) wk (lgN wk (fl dt ld 24) lg b) (fl dt ld 24 b) b (hfl b (by omega)) (by omega)) (in_S tw_108 tw_109 tw_10 tw_110) (by decide +kernel) ⟨rfl, rfl, Nat.le_of_ble_eq_true rfl, Nat.le_of_ble_eq_true rfl⟩ hK hN hP hD hS hA [1, 3] [0, 2, 4, 5] [0, 4, 1, 5, 2, 3] rfl rfl ([oD q (cnt dt 24) mk on 0 sh, aB k (q 3) hm, aZ k (q 5) dt, aN k (q 6) (fl dt ld 24)]) rfl rfl (by decide) rfl rfl hl.1 rfl rfl (Nat.le_of_ble_eq_true rfl) d_Disk_commit_96 ⟨Nat.zero_le _, Nat.zero_le _⟩ (fun H locs hP hD hS => ?_)
    rw [lgN_s] at hP hD
    refine lv_iinc (v := (nI (b + 1))) (lv' := [(3, .int (nI (b + 1))), (0, .ref (q 1)), (1, .int (nI 0)), (2, .int (nI (cnt dt 24)))]) hx hb d_Disk_commit_99 hl (k := 3) rfl (nI_add _ 1) (by decide) rfl (fun ls hl => ?_)
    refine lv_goto (tgt := 76) hx hb d_Disk_commit_102 (by decide) ?_
    exact ih _ _ _ hP hD hS (lv_sub hl [1, 2, 3, 0] rfl)
  · intro H locs ls hP hD hS hl
    have hP : va_P D classes (dW k q wk hm (lgN wk (fl dt ld 24) lg (cnt dt 24)) dt (fl dt ld 24) (cnt dt 24) mk on 0 sh) H := hP
    have hD : va_D A (dW k q wk hm (lgN wk (fl dt ld 24) lg (cnt dt 24)) dt (fl dt ld 24) (cnt dt 24) mk on 0 sh) := hD
    have hl : lv_has ls 4 [(0, .ref (q 1)), (1, .int (nI 0)), (2, .int (nI (cnt dt 24))), (3, .int (nI (cnt dt 24)))] := hl
    refine lv_iload_n hx hb d_Disk_commit_76 rfl (lv_at hl 3 rfl) ?_
    refine lv_iload_n hx hb d_Disk_commit_77 rfl (lv_at hl 2 rfl) ?_
    refine my_icmpge (tgt := 105) hx hb (x := cnt dt 24) (y := cnt dt 24) (by omega) (by omega) d_Disk_commit_78 (by decide) (fun c_78 => ?_) (fun c_78 => absurd c_78 (by omega))
    refine lv_iload_n hx hb d_Disk_commit_105 rfl (lv_at hl 1 rfl) ?_
    refine lv_as (y := (bI false)) rfl ?_
    refine my_ifeq (tgt := 124) hx hb d_Disk_commit_106 (by decide) (fun _ => ?_) (fun c => absurd c (by decide))
    refine lv_aload_n hx hb d_Disk_commit_124 rfl (lv_at hl 0 rfl) ?_
    refine lv_iconst (v := (nI 1)) hx hb d_Disk_commit_125 (by decide) ?_
    refine lv_as (y := (bI true)) rfl ?_
    refine va_put (D := D) (ci := 1) (v := .int (bI true)) (ty := .boolean) (C := R_Disk) (T := F_Disk) (N := 10) hx hb htw i_Disk t_Disk t_Disk_ok n_Disk hown hK hP hD hS 0 rfl rfl 6 (by decide) (htw _ tw_37) (fun _ h9 => h9) rfl (by decide +kernel) (bI_nar _) (bI_fit _) (Nat.le_of_ble_eq_true rfl) d_Disk_commit_126 (fun H locs hP hD hS => ?_)
    have hP : va_P D classes (dW k q wk hm (lgN wk (fl dt ld 24) lg (cnt dt 24)) dt (fl dt ld 24) (cnt dt 24) true on 0 sh) H := hP
    have hD : va_D A (dW k q wk hm (lgN wk (fl dt ld 24) lg (cnt dt 24)) dt (fl dt ld 24) (cnt dt 24) true on 0 sh) := hD
    refine lv_aload_n hx hb d_Disk_commit_129 rfl (lv_at hl 0 rfl) ?_
    refine lv_iload_n hx hb d_Disk_commit_130 rfl (lv_at hl 1 rfl) ?_
    refine lv_as (y := (bI false)) rfl ?_
    refine my_ifeq (tgt := 154) hx hb d_Disk_commit_131 (by decide) (fun _ => ?_) (fun c => absurd c (by decide))
    refine lv_aload_n hx hb d_Disk_commit_154 rfl (lv_at hl 0 rfl) ?_
    refine va_get (D := D) (ci := 1) (v := .int (nI (cnt dt 24))) (C := R_Disk) (T := F_Disk) (N := 10) hx hb htw i_Disk hown hK hP 0 rfl rfl 5 (by decide) (htw _ tw_35) (fun _ h9 => h9) rfl d_Disk_commit_155 ?_
    refine call_Vv (n := 1) (As := [.int (nI (cnt dt 24))]) (ws' := dW k q wk (hmN (lgN wk (fl dt ld 24) lg (cnt dt 24)) (fl dt ld 24) hm (cnt dt 24)) (lgN wk (fl dt ld 24) lg (cnt dt 24)) dt (fl dt ld 24) (cnt dt 24) true on 0 sh) ⟨hx, hb, hml, hown, htw⟩ (c_Disk_homes l D k q wk hm (lgN wk (fl dt ld 24) lg (cnt dt 24)) dt (fl dt ld 24) (cnt dt 24) true on 0 sh (cnt dt 24) (by omega) (fun j hj => hfl j (by omega))) (in_V tw_118 tw_120 tw_2 tw_10 tw_121) (by decide +kernel) ⟨rfl, rfl, Nat.le_of_ble_eq_true rfl, Nat.le_of_ble_eq_true rfl⟩ hK hN hP hD hS hA [0, 1, 2, 3, 4, 5] [] [0, 1, 2, 3, 4, 5] rfl rfl ([]) rfl rfl (by decide) rfl rfl 1 rfl 0 rfl hl.1 rfl rfl (Nat.le_of_ble_eq_true rfl) d_Disk_commit_158 ⟨Nat.zero_le _, Nat.zero_le _⟩ (fun H locs hP hD hS => ?_)
    refine lv_iload_n hx hb d_Disk_commit_161 rfl (lv_at hl 1 rfl) ?_
    refine lv_as (y := (bI false)) rfl ?_
    refine my_ifeq (tgt := 170) hx hb d_Disk_commit_162 (by decide) (fun _ => ?_) (fun c => absurd c (by decide))
    refine lv_aload_n hx hb d_Disk_commit_170 rfl (lv_at hl 0 rfl) ?_
    refine lv_iconst (v := (nI 0)) hx hb d_Disk_commit_171 (by decide) ?_
    refine lv_as (y := (bI false)) rfl ?_
    refine va_put (D := D) (ci := 1) (v := .int (bI false)) (ty := .boolean) (C := R_Disk) (T := F_Disk) (N := 10) hx hb htw i_Disk t_Disk t_Disk_ok n_Disk hown hK hP hD hS 0 rfl rfl 6 (by decide) (htw _ tw_37) (fun _ h9 => h9) rfl (by decide +kernel) (bI_nar _) (bI_fit _) (Nat.le_of_ble_eq_true rfl) d_Disk_commit_172 (fun H locs hP hD hS => ?_)
    have hP : va_P D classes (dW k q wk (hmN (lgN wk (fl dt ld 24) lg (cnt dt 24)) (fl dt ld 24) hm (cnt dt 24)) (lgN wk (fl dt ld 24) lg (cnt dt 24)) dt (fl dt ld 24) (cnt dt 24) false on 0 sh) H := hP
    have hD : va_D A (dW k q wk (hmN (lgN wk (fl dt ld 24) lg (cnt dt 24)) (fl dt ld 24) hm (cnt dt 24)) (lgN wk (fl dt ld 24) lg (cnt dt 24)) dt (fl dt ld 24) (cnt dt 24) false on 0 sh) := hD
    refine lv_iconst (v := (nI 0)) hx hb d_Disk_commit_175 (by decide) ?_
    refine lv_istore_n (lv' := [(3, .int (nI 0)), (0, .ref (q 1)), (1, .int (nI 0)), (2, .int (nI (cnt dt 24)))]) hx hb d_Disk_commit_176 rfl hl (by decide) rfl (fun ls hl => ?_)
    have hl := lv_sub hl [1, 0] rfl
    refine loopW (nL := 4) (D := D) (A := A) (cnt dt 24) (fun b => dW k q wk (hmN (lgN wk (fl dt ld 24) lg (cnt dt 24)) (fl dt ld 24) hm (cnt dt 24)) (lgN wk (fl dt ld 24) lg (cnt dt 24)) (dcl (fl dt ld 24) dt b) (fl dt ld 24) (cnt dt 24) false on 0 sh) (fun b => [(0, .ref (q 1)), (3, .int (nI b))]) ?_ ?_ 0 (Nat.zero_le _) _ _ _ hP hD hS hl
    · intro b hlt ih H locs ls hP hD hS hl
      have hP : va_P D classes (dW k q wk (hmN (lgN wk (fl dt ld 24) lg (cnt dt 24)) (fl dt ld 24) hm (cnt dt 24)) (lgN wk (fl dt ld 24) lg (cnt dt 24)) (dcl (fl dt ld 24) dt b) (fl dt ld 24) (cnt dt 24) false on 0 sh) H := hP
      have hD : va_D A (dW k q wk (hmN (lgN wk (fl dt ld 24) lg (cnt dt 24)) (fl dt ld 24) hm (cnt dt 24)) (lgN wk (fl dt ld 24) lg (cnt dt 24)) (dcl (fl dt ld 24) dt b) (fl dt ld 24) (cnt dt 24) false on 0 sh) := hD
      have hl : lv_has ls 4 [(0, .ref (q 1)), (3, .int (nI b))] := hl
      refine lv_iload_n hx hb d_Disk_commit_177 rfl (lv_at hl 1 rfl) ?_
      refine lv_aload_n hx hb d_Disk_commit_178 rfl (lv_at hl 0 rfl) ?_
      refine va_get (D := D) (ci := 1) (v := .int (nI (cnt dt 24))) (C := R_Disk) (T := F_Disk) (N := 10) hx hb htw i_Disk hown hK hP 0 rfl rfl 5 (by decide) (htw _ tw_35) (fun _ h9 => h9) rfl d_Disk_commit_179 ?_
      refine my_icmpge (tgt := 203) hx hb (x := b) (y := cnt dt 24) (by omega) (by omega) d_Disk_commit_182 (by decide) (fun c_182 => absurd c_182 (by omega)) (fun c_182 => ?_)
      refine lv_aload_n hx hb d_Disk_commit_185 rfl (lv_at hl 0 rfl) ?_
      refine va_get (D := D) (ci := 1) (v := .ref (q 5)) (C := R_Disk) (T := F_Disk) (N := 10) hx hb htw i_Disk hown hK hP 0 rfl rfl 3 (by decide) (htw _ tw_32) (fun _ h9 => h9) rfl d_Disk_commit_186 ?_
      refine lv_aload_n hx hb d_Disk_commit_189 rfl (lv_at hl 0 rfl) ?_
      refine va_get (D := D) (ci := 1) (v := .ref (q 6)) (C := R_Disk) (T := F_Disk) (N := 10) hx hb htw i_Disk hown hK hP 0 rfl rfl 4 (by decide) (htw _ tw_34) (fun _ h9 => h9) rfl d_Disk_commit_190 ?_
      refine lv_iload_n hx hb d_Disk_commit_193 rfl (lv_at hl 1 rfl) ?_
      refine my_iald hx hb hK hP 5 2 rfl rfl (i := b) (by omega) (by decide) d_Disk_commit_194 ?_
      refine lv_iconst (v := (nI 0)) hx hb d_Disk_commit_195 (by decide) ?_
      refine lv_as (y := (bI false)) rfl ?_
      refine my_zast hx hb hK hP hD hS 4 1 rfl rfl (i := (fl dt ld 24) b) (v := false) (hfl b (by omega)) (by decide) d_Disk_commit_196 (fun H locs hP hD hS => ?_)
      have hP : va_P D classes (dW k q wk (hmN (lgN wk (fl dt ld 24) lg (cnt dt 24)) (fl dt ld 24) hm (cnt dt 24)) (lgN wk (fl dt ld 24) lg (cnt dt 24)) (va_up (dcl (fl dt ld 24) dt b) ((fl dt ld 24) b) false) (fl dt ld 24) (cnt dt 24) false on 0 sh) H := hP
      have hD : va_D A (dW k q wk (hmN (lgN wk (fl dt ld 24) lg (cnt dt 24)) (fl dt ld 24) hm (cnt dt 24)) (lgN wk (fl dt ld 24) lg (cnt dt 24)) (va_up (dcl (fl dt ld 24) dt b) ((fl dt ld 24) b) false) (fl dt ld 24) (cnt dt 24) false on 0 sh) := hD
      rw [dcl_s] at hP hD
      refine lv_iinc (v := (nI (b + 1))) (lv' := [(3, .int (nI (b + 1))), (0, .ref (q 1))]) hx hb d_Disk_commit_197 hl (k := 1) rfl (nI_add _ 1) (by decide) rfl (fun ls hl => ?_)
      refine lv_goto (tgt := 177) hx hb d_Disk_commit_200 (by decide) ?_
      exact ih _ _ _ hP hD hS (lv_sub hl [1, 0] rfl)
    · intro H locs ls hP hD hS hl
      have hP : va_P D classes (dW k q wk (hmN (lgN wk (fl dt ld 24) lg (cnt dt 24)) (fl dt ld 24) hm (cnt dt 24)) (lgN wk (fl dt ld 24) lg (cnt dt 24)) (dcl (fl dt ld 24) dt (cnt dt 24)) (fl dt ld 24) (cnt dt 24) false on 0 sh) H := hP
      have hD : va_D A (dW k q wk (hmN (lgN wk (fl dt ld 24) lg (cnt dt 24)) (fl dt ld 24) hm (cnt dt 24)) (lgN wk (fl dt ld 24) lg (cnt dt 24)) (dcl (fl dt ld 24) dt (cnt dt 24)) (fl dt ld 24) (cnt dt 24) false on 0 sh) := hD
      have hl : lv_has ls 4 [(0, .ref (q 1)), (3, .int (nI (cnt dt 24)))] := hl
      refine lv_iload_n hx hb d_Disk_commit_177 rfl (lv_at hl 1 rfl) ?_
      refine lv_aload_n hx hb d_Disk_commit_178 rfl (lv_at hl 0 rfl) ?_
      refine va_get (D := D) (ci := 1) (v := .int (nI (cnt dt 24))) (C := R_Disk) (T := F_Disk) (N := 10) hx hb htw i_Disk hown hK hP 0 rfl rfl 5 (by decide) (htw _ tw_35) (fun _ h9 => h9) rfl d_Disk_commit_179 ?_
      refine my_icmpge (tgt := 203) hx hb (x := cnt dt 24) (y := cnt dt 24) (by omega) (by omega) d_Disk_commit_182 (by decide) (fun c_182 => ?_) (fun c_182 => absurd c_182 (by omega))
      refine lv_iconst (v := (nI 1)) hx hb d_Disk_commit_203 (by decide) ?_
      refine lv_as (y := (bI true)) rfl ?_
      exact ret_z hx hb hr hlocks hK hP hD hS (v := true) rfl d_Disk_commit_204
set_option maxHeartbeats 4000000 in
set_option maxRecDepth 100000 in
theorem c_Disk_commit_E (l : Launch) (D : va_G) (k : Nat → ClassId) (q : Nat → Nat) (wk hm lg : Nat → Int8) (dt : Nat → Bool) (ld : Nat → Nat) (ct : Nat) (mk on : Bool) (un sh : Nat) (hun : 2 ≤ un) (hu2 : un ≤ 1000) : Ci l D (tyK k) y_Disk_commit k_Disk_commit ({ frames := 3, cells := 0, slots := 0, locals := 63 }) [.ref (q 1)] (dW k q wk hm lg dt ld ct mk on un sh) (bI true) (dW k q wk (hmN (lgN wk (fl dt ld 24) lg (cnt dt 24)) (fl dt ld 24) hm (cnt dt 24)) (lgN wk (fl dt ld 24) lg (cnt dt 24)) (dcl (fl dt ld 24) dt (cnt dt 24)) (fl dt ld 24) (cnt dt 24) false on (un - 1) sh) := by
  refine open_i (by decide) (Nat.le_of_ble_eq_true rfl) ?_
  intro pg ev s m below meth c A hx hb hml hr hlocks htw hown hnm hA hS hP hK hD hN ls hl
  have hown : s.vm.findClass R_Disk = some m.cls := hown
  have hl : lv_has ls 4 [(0, .ref (q 1))] := hl
  have hc24 := cnt_le dt 24
  have hfl := fl_lt dt ld 24
  refine lv_aload_n hx hb d_Disk_commit_0 rfl (lv_at hl 0 rfl) ?_
  refine call_Vv (n := 0) (As := []) (ws' := dW k q wk hm lg dt (fl dt ld 24) (cnt dt 24) mk on un sh) ⟨hx, hb, hml, hown, htw⟩ (c_Disk_fills l D k q wk hm lg dt ld ct mk on un sh) (in_V tw_104 tw_106 tw_0 tw_10 tw_107) (by decide +kernel) ⟨rfl, rfl, Nat.le_of_ble_eq_true rfl, Nat.le_of_ble_eq_true rfl⟩ hK hN hP hD hS hA [0, 1, 2, 3, 4, 5] [] [0, 1, 2, 3, 4, 5] rfl rfl ([]) rfl rfl (by decide) rfl rfl 1 rfl 0 rfl hl.1 rfl rfl (Nat.le_of_ble_eq_true rfl) d_Disk_commit_1 ⟨Nat.zero_le _, Nat.zero_le _⟩ (fun H locs hP hD hS => ?_)
  refine lv_aload_n hx hb d_Disk_commit_4 rfl (lv_at hl 0 rfl) ?_
  refine va_get (D := D) (ci := 1) (v := .int (nI un)) (C := R_Disk) (T := F_Disk) (N := 10) hx hb htw i_Disk hown hK hP 0 rfl rfl 8 (by decide) (htw _ tw_41) (fun _ h9 => h9) rfl d_Disk_commit_5 ?_
  refine lv_iconst (v := (nI 1)) hx hb d_Disk_commit_8 (by decide) ?_
  refine my_icmpne (tgt := 16) hx hb (x := un) (y := 1) (by omega) (by omega) d_Disk_commit_9 (by decide) (fun c_9 => ?_) (fun c_9 => absurd c_9 (by omega))
  refine lv_iconst (v := (nI 0)) hx hb d_Disk_commit_16 (by decide) ?_
  refine lv_istore_n (lv' := [(1, .int (nI 0)), (0, .ref (q 1))]) hx hb d_Disk_commit_17 rfl hl (by decide) rfl (fun ls hl => ?_)
  refine lv_aload_n hx hb d_Disk_commit_18 rfl (lv_at hl 1 rfl) ?_
  refine lv_dup hx hb d_Disk_commit_19 rfl ?_
  refine va_get (D := D) (ci := 1) (v := .int (nI un)) (C := R_Disk) (T := F_Disk) (N := 10) hx hb htw i_Disk hown hK hP 0 rfl rfl 8 (by decide) (htw _ tw_41) (fun _ h9 => h9) rfl d_Disk_commit_20 ?_
  refine lv_aload_n hx hb d_Disk_commit_23 rfl (lv_at hl 1 rfl) ?_
  refine va_get (D := D) (ci := 1) (v := .int (nI un)) (C := R_Disk) (T := F_Disk) (N := 10) hx hb htw i_Disk hown hK hP 0 rfl rfl 8 (by decide) (htw _ tw_41) (fun _ h9 => h9) rfl d_Disk_commit_24 ?_
  refine lv_if_le (tgt := 34) hx hb d_Disk_commit_27 (by decide) (fun c_27 => absurd c_27 (nI_nle (by omega) (by omega))) (fun c_27 => ?_)
  refine lv_iconst (v := (nI 1)) hx hb d_Disk_commit_30 (by decide) ?_
  refine lv_goto (tgt := 35) hx hb d_Disk_commit_31 (by decide) ?_
  refine my_isub hx hb (x := un) (y := 1) (by omega) d_Disk_commit_35 ?_
  refine va_put (D := D) (ci := 1) (v := .int (nI (un - 1))) (ty := .int) (C := R_Disk) (T := F_Disk) (N := 10) hx hb htw i_Disk t_Disk t_Disk_ok n_Disk hown hK hP hD hS 0 rfl rfl 8 (by decide) (htw _ tw_41) (fun _ h9 => h9) rfl (by decide +kernel) rfl rfl (Nat.le_of_ble_eq_true rfl) d_Disk_commit_36 (fun H locs hP hD hS => ?_)
  have hP : va_P D classes (dW k q wk hm lg dt (fl dt ld 24) (cnt dt 24) mk on (un - 1) sh) H := hP
  have hD : va_D A (dW k q wk hm lg dt (fl dt ld 24) (cnt dt 24) mk on (un - 1) sh) := hD
  refine lv_iload_n hx hb d_Disk_commit_39 rfl (lv_at hl 0 rfl) ?_
  refine lv_as (y := (bI false)) rfl ?_
  refine my_ifeq (tgt := 69) hx hb d_Disk_commit_40 (by decide) (fun _ => ?_) (fun c => absurd c (by decide))
  refine lv_aload_n hx hb d_Disk_commit_69 rfl (lv_at hl 1 rfl) ?_
  refine va_get (D := D) (ci := 1) (v := .int (nI (cnt dt 24))) (C := R_Disk) (T := F_Disk) (N := 10) hx hb htw i_Disk hown hK hP 0 rfl rfl 5 (by decide) (htw _ tw_35) (fun _ h9 => h9) rfl d_Disk_commit_70 ?_
  refine lv_istore_n (lv' := [(2, .int (nI (cnt dt 24))), (1, .int (nI 0)), (0, .ref (q 1))]) hx hb d_Disk_commit_73 rfl hl (by decide) rfl (fun ls hl => ?_)
  refine lv_iconst (v := (nI 0)) hx hb d_Disk_commit_74 (by decide) ?_
  refine lv_istore_n (lv' := [(3, .int (nI 0)), (2, .int (nI (cnt dt 24))), (1, .int (nI 0)), (0, .ref (q 1))]) hx hb d_Disk_commit_75 rfl hl (by decide) rfl (fun ls hl => ?_)
  have hl := lv_sub hl [3, 2, 1, 0] rfl
  refine loopW (nL := 4) (D := D) (A := A) (cnt dt 24) (fun b => dW k q wk hm (lgN wk (fl dt ld 24) lg b) dt (fl dt ld 24) (cnt dt 24) mk on (un - 1) sh) (fun b => [(0, .ref (q 1)), (1, .int (nI 0)), (2, .int (nI (cnt dt 24))), (3, .int (nI b))]) ?_ ?_ 0 (Nat.zero_le _) _ _ _ hP hD hS hl
  · intro b hlt ih H locs ls hP hD hS hl
    have hP : va_P D classes (dW k q wk hm (lgN wk (fl dt ld 24) lg b) dt (fl dt ld 24) (cnt dt 24) mk on (un - 1) sh) H := hP
    have hD : va_D A (dW k q wk hm (lgN wk (fl dt ld 24) lg b) dt (fl dt ld 24) (cnt dt 24) mk on (un - 1) sh) := hD
    have hl : lv_has ls 4 [(0, .ref (q 1)), (1, .int (nI 0)), (2, .int (nI (cnt dt 24))), (3, .int (nI b))] := hl
    refine lv_iload_n hx hb d_Disk_commit_76 rfl (lv_at hl 3 rfl) ?_
    refine lv_iload_n hx hb d_Disk_commit_77 rfl (lv_at hl 2 rfl) ?_
    refine my_icmpge (tgt := 105) hx hb (x := b) (y := cnt dt 24) (by omega) (by omega) d_Disk_commit_78 (by decide) (fun c_78 => absurd c_78 (by omega)) (fun c_78 => ?_)
    refine lv_aload_n hx hb d_Disk_commit_81 rfl (lv_at hl 0 rfl) ?_
    refine va_get (D := D) (ci := 1) (v := .ref (q 2)) (C := R_Disk) (T := F_Disk) (N := 10) hx hb htw i_Disk hown hK hP 0 rfl rfl 0 (by decide) (htw _ tw_27) (fun _ h9 => h9) rfl d_Disk_commit_82 ?_
    refine lv_aload_n hx hb d_Disk_commit_85 rfl (lv_at hl 0 rfl) ?_
    refine va_get (D := D) (ci := 1) (v := .ref (q 6)) (C := R_Disk) (T := F_Disk) (N := 10) hx hb htw i_Disk hown hK hP 0 rfl rfl 4 (by decide) (htw _ tw_34) (fun _ h9 => h9) rfl d_Disk_commit_86 ?_
    refine lv_iload_n hx hb d_Disk_commit_89 rfl (lv_at hl 3 rfl) ?_
    refine my_iald hx hb hK hP 5 2 rfl rfl (i := b) (by omega) (by decide) d_Disk_commit_90 ?_
    refine lv_aload_n hx hb d_Disk_commit_91 rfl (lv_at hl 0 rfl) ?_
    refine va_get (D := D) (ci := 1) (v := .ref (q 4)) (C := R_Disk) (T := F_Disk) (N := 10) hx hb htw i_Disk hown hK hP 0 rfl rfl 2 (by decide) (htw _ tw_31) (fun _ h9 => h9) rfl d_Disk_commit_92 ?_
    refine lv_iload_n hx hb d_Disk_commit_95 rfl (lv_at hl 3 rfl) ?_
    refine call_Sv (n := 4) (As := [.ref (q 2), .int (nI ((fl dt ld 24) b)), .ref (q 4), .int (nI b)]) (ws' := dW k q wk hm (va_cpy wk (lgN wk (fl dt ld 24) lg b) (16 * (fl dt ld 24 b)) (16 * b) 16) dt (fl dt ld 24) (cnt dt 24) mk on (un - 1) sh) ⟨hx, hb, hml, hown, htw⟩ (c_Disk_copy l D k (q 2) (q 4) wk (lgN wk (fl dt ld 24) lg b) (fl dt ld 24 b) b (hfl b (by omega)) (by omega)) (in_S tw_108 tw_109 tw_10 tw_110) (by decide +kernel) ⟨rfl, rfl, Nat.le_of_ble_eq_true rfl, Nat.le_of_ble_eq_true rfl⟩ hK hN hP hD hS hA [1, 3] [0, 2, 4, 5] [0, 4, 1, 5, 2, 3] rfl rfl ([oD q (cnt dt 24) mk on (un - 1) sh, aB k (q 3) hm, aZ k (q 5) dt, aN k (q 6) (fl dt ld 24)]) rfl rfl (by decide) rfl rfl hl.1 rfl rfl (Nat.le_of_ble_eq_true rfl) d_Disk_commit_96 ⟨Nat.zero_le _, Nat.zero_le _⟩ (fun H locs hP hD hS => ?_)
    rw [lgN_s] at hP hD
    refine lv_iinc (v := (nI (b + 1))) (lv' := [(3, .int (nI (b + 1))), (0, .ref (q 1)), (1, .int (nI 0)), (2, .int (nI (cnt dt 24)))]) hx hb d_Disk_commit_99 hl (k := 3) rfl (nI_add _ 1) (by decide) rfl (fun ls hl => ?_)
    refine lv_goto (tgt := 76) hx hb d_Disk_commit_102 (by decide) ?_
    exact ih _ _ _ hP hD hS (lv_sub hl [1, 2, 3, 0] rfl)
  · intro H locs ls hP hD hS hl
    have hP : va_P D classes (dW k q wk hm (lgN wk (fl dt ld 24) lg (cnt dt 24)) dt (fl dt ld 24) (cnt dt 24) mk on (un - 1) sh) H := hP
    have hD : va_D A (dW k q wk hm (lgN wk (fl dt ld 24) lg (cnt dt 24)) dt (fl dt ld 24) (cnt dt 24) mk on (un - 1) sh) := hD
    have hl : lv_has ls 4 [(0, .ref (q 1)), (1, .int (nI 0)), (2, .int (nI (cnt dt 24))), (3, .int (nI (cnt dt 24)))] := hl
    refine lv_iload_n hx hb d_Disk_commit_76 rfl (lv_at hl 3 rfl) ?_
    refine lv_iload_n hx hb d_Disk_commit_77 rfl (lv_at hl 2 rfl) ?_
    refine my_icmpge (tgt := 105) hx hb (x := cnt dt 24) (y := cnt dt 24) (by omega) (by omega) d_Disk_commit_78 (by decide) (fun c_78 => ?_) (fun c_78 => absurd c_78 (by omega))
    refine lv_iload_n hx hb d_Disk_commit_105 rfl (lv_at hl 1 rfl) ?_
    refine lv_as (y := (bI false)) rfl ?_
    refine my_ifeq (tgt := 124) hx hb d_Disk_commit_106 (by decide) (fun _ => ?_) (fun c => absurd c (by decide))
    refine lv_aload_n hx hb d_Disk_commit_124 rfl (lv_at hl 0 rfl) ?_
    refine lv_iconst (v := (nI 1)) hx hb d_Disk_commit_125 (by decide) ?_
    refine lv_as (y := (bI true)) rfl ?_
    refine va_put (D := D) (ci := 1) (v := .int (bI true)) (ty := .boolean) (C := R_Disk) (T := F_Disk) (N := 10) hx hb htw i_Disk t_Disk t_Disk_ok n_Disk hown hK hP hD hS 0 rfl rfl 6 (by decide) (htw _ tw_37) (fun _ h9 => h9) rfl (by decide +kernel) (bI_nar _) (bI_fit _) (Nat.le_of_ble_eq_true rfl) d_Disk_commit_126 (fun H locs hP hD hS => ?_)
    have hP : va_P D classes (dW k q wk hm (lgN wk (fl dt ld 24) lg (cnt dt 24)) dt (fl dt ld 24) (cnt dt 24) true on (un - 1) sh) H := hP
    have hD : va_D A (dW k q wk hm (lgN wk (fl dt ld 24) lg (cnt dt 24)) dt (fl dt ld 24) (cnt dt 24) true on (un - 1) sh) := hD
    refine lv_aload_n hx hb d_Disk_commit_129 rfl (lv_at hl 0 rfl) ?_
    refine lv_iload_n hx hb d_Disk_commit_130 rfl (lv_at hl 1 rfl) ?_
    refine lv_as (y := (bI false)) rfl ?_
    refine my_ifeq (tgt := 154) hx hb d_Disk_commit_131 (by decide) (fun _ => ?_) (fun c => absurd c (by decide))
    refine lv_aload_n hx hb d_Disk_commit_154 rfl (lv_at hl 0 rfl) ?_
    refine va_get (D := D) (ci := 1) (v := .int (nI (cnt dt 24))) (C := R_Disk) (T := F_Disk) (N := 10) hx hb htw i_Disk hown hK hP 0 rfl rfl 5 (by decide) (htw _ tw_35) (fun _ h9 => h9) rfl d_Disk_commit_155 ?_
    refine call_Vv (n := 1) (As := [.int (nI (cnt dt 24))]) (ws' := dW k q wk (hmN (lgN wk (fl dt ld 24) lg (cnt dt 24)) (fl dt ld 24) hm (cnt dt 24)) (lgN wk (fl dt ld 24) lg (cnt dt 24)) dt (fl dt ld 24) (cnt dt 24) true on (un - 1) sh) ⟨hx, hb, hml, hown, htw⟩ (c_Disk_homes l D k q wk hm (lgN wk (fl dt ld 24) lg (cnt dt 24)) dt (fl dt ld 24) (cnt dt 24) true on (un - 1) sh (cnt dt 24) (by omega) (fun j hj => hfl j (by omega))) (in_V tw_118 tw_120 tw_2 tw_10 tw_121) (by decide +kernel) ⟨rfl, rfl, Nat.le_of_ble_eq_true rfl, Nat.le_of_ble_eq_true rfl⟩ hK hN hP hD hS hA [0, 1, 2, 3, 4, 5] [] [0, 1, 2, 3, 4, 5] rfl rfl ([]) rfl rfl (by decide) rfl rfl 1 rfl 0 rfl hl.1 rfl rfl (Nat.le_of_ble_eq_true rfl) d_Disk_commit_158 ⟨Nat.zero_le _, Nat.zero_le _⟩ (fun H locs hP hD hS => ?_)
    refine lv_iload_n hx hb d_Disk_commit_161 rfl (lv_at hl 1 rfl) ?_
    refine lv_as (y := (bI false)) rfl ?_
    refine my_ifeq (tgt := 170) hx hb d_Disk_commit_162 (by decide) (fun _ => ?_) (fun c => absurd c (by decide))
    refine lv_aload_n hx hb d_Disk_commit_170 rfl (lv_at hl 0 rfl) ?_
    refine lv_iconst (v := (nI 0)) hx hb d_Disk_commit_171 (by decide) ?_
    refine lv_as (y := (bI false)) rfl ?_
    refine va_put (D := D) (ci := 1) (v := .int (bI false)) (ty := .boolean) (C := R_Disk) (T := F_Disk) (N := 10) hx hb htw i_Disk t_Disk t_Disk_ok n_Disk hown hK hP hD hS 0 rfl rfl 6 (by decide) (htw _ tw_37) (fun _ h9 => h9) rfl (by decide +kernel) (bI_nar _) (bI_fit _) (Nat.le_of_ble_eq_true rfl) d_Disk_commit_172 (fun H locs hP hD hS => ?_)
    have hP : va_P D classes (dW k q wk (hmN (lgN wk (fl dt ld 24) lg (cnt dt 24)) (fl dt ld 24) hm (cnt dt 24)) (lgN wk (fl dt ld 24) lg (cnt dt 24)) dt (fl dt ld 24) (cnt dt 24) false on (un - 1) sh) H := hP
    have hD : va_D A (dW k q wk (hmN (lgN wk (fl dt ld 24) lg (cnt dt 24)) (fl dt ld 24) hm (cnt dt 24)) (lgN wk (fl dt ld 24) lg (cnt dt 24)) dt (fl dt ld 24) (cnt dt 24) false on (un - 1) sh) := hD
    refine lv_iconst (v := (nI 0)) hx hb d_Disk_commit_175 (by decide) ?_
    refine lv_istore_n (lv' := [(3, .int (nI 0)), (0, .ref (q 1)), (1, .int (nI 0)), (2, .int (nI (cnt dt 24)))]) hx hb d_Disk_commit_176 rfl hl (by decide) rfl (fun ls hl => ?_)
    have hl := lv_sub hl [1, 0] rfl
    refine loopW (nL := 4) (D := D) (A := A) (cnt dt 24) (fun b => dW k q wk (hmN (lgN wk (fl dt ld 24) lg (cnt dt 24)) (fl dt ld 24) hm (cnt dt 24)) (lgN wk (fl dt ld 24) lg (cnt dt 24)) (dcl (fl dt ld 24) dt b) (fl dt ld 24) (cnt dt 24) false on (un - 1) sh) (fun b => [(0, .ref (q 1)), (3, .int (nI b))]) ?_ ?_ 0 (Nat.zero_le _) _ _ _ hP hD hS hl
    · intro b hlt ih H locs ls hP hD hS hl
      have hP : va_P D classes (dW k q wk (hmN (lgN wk (fl dt ld 24) lg (cnt dt 24)) (fl dt ld 24) hm (cnt dt 24)) (lgN wk (fl dt ld 24) lg (cnt dt 24)) (dcl (fl dt ld 24) dt b) (fl dt ld 24) (cnt dt 24) false on (un - 1) sh) H := hP
      have hD : va_D A (dW k q wk (hmN (lgN wk (fl dt ld 24) lg (cnt dt 24)) (fl dt ld 24) hm (cnt dt 24)) (lgN wk (fl dt ld 24) lg (cnt dt 24)) (dcl (fl dt ld 24) dt b) (fl dt ld 24) (cnt dt 24) false on (un - 1) sh) := hD
      have hl : lv_has ls 4 [(0, .ref (q 1)), (3, .int (nI b))] := hl
      refine lv_iload_n hx hb d_Disk_commit_177 rfl (lv_at hl 1 rfl) ?_
      refine lv_aload_n hx hb d_Disk_commit_178 rfl (lv_at hl 0 rfl) ?_
      refine va_get (D := D) (ci := 1) (v := .int (nI (cnt dt 24))) (C := R_Disk) (T := F_Disk) (N := 10) hx hb htw i_Disk hown hK hP 0 rfl rfl 5 (by decide) (htw _ tw_35) (fun _ h9 => h9) rfl d_Disk_commit_179 ?_
      refine my_icmpge (tgt := 203) hx hb (x := b) (y := cnt dt 24) (by omega) (by omega) d_Disk_commit_182 (by decide) (fun c_182 => absurd c_182 (by omega)) (fun c_182 => ?_)
      refine lv_aload_n hx hb d_Disk_commit_185 rfl (lv_at hl 0 rfl) ?_
      refine va_get (D := D) (ci := 1) (v := .ref (q 5)) (C := R_Disk) (T := F_Disk) (N := 10) hx hb htw i_Disk hown hK hP 0 rfl rfl 3 (by decide) (htw _ tw_32) (fun _ h9 => h9) rfl d_Disk_commit_186 ?_
      refine lv_aload_n hx hb d_Disk_commit_189 rfl (lv_at hl 0 rfl) ?_
      refine va_get (D := D) (ci := 1) (v := .ref (q 6)) (C := R_Disk) (T := F_Disk) (N := 10) hx hb htw i_Disk hown hK hP 0 rfl rfl 4 (by decide) (htw _ tw_34) (fun _ h9 => h9) rfl d_Disk_commit_190 ?_
      refine lv_iload_n hx hb d_Disk_commit_193 rfl (lv_at hl 1 rfl) ?_
      refine my_iald hx hb hK hP 5 2 rfl rfl (i := b) (by omega) (by decide) d_Disk_commit_194 ?_
      refine lv_iconst (v := (nI 0)) hx hb d_Disk_commit_195 (by decide) ?_
      refine lv_as (y := (bI false)) rfl ?_
      refine my_zast hx hb hK hP hD hS 4 1 rfl rfl (i := (fl dt ld 24) b) (v := false) (hfl b (by omega)) (by decide) d_Disk_commit_196 (fun H locs hP hD hS => ?_)
      have hP : va_P D classes (dW k q wk (hmN (lgN wk (fl dt ld 24) lg (cnt dt 24)) (fl dt ld 24) hm (cnt dt 24)) (lgN wk (fl dt ld 24) lg (cnt dt 24)) (va_up (dcl (fl dt ld 24) dt b) ((fl dt ld 24) b) false) (fl dt ld 24) (cnt dt 24) false on (un - 1) sh) H := hP
      have hD : va_D A (dW k q wk (hmN (lgN wk (fl dt ld 24) lg (cnt dt 24)) (fl dt ld 24) hm (cnt dt 24)) (lgN wk (fl dt ld 24) lg (cnt dt 24)) (va_up (dcl (fl dt ld 24) dt b) ((fl dt ld 24) b) false) (fl dt ld 24) (cnt dt 24) false on (un - 1) sh) := hD
      rw [dcl_s] at hP hD
      refine lv_iinc (v := (nI (b + 1))) (lv' := [(3, .int (nI (b + 1))), (0, .ref (q 1))]) hx hb d_Disk_commit_197 hl (k := 1) rfl (nI_add _ 1) (by decide) rfl (fun ls hl => ?_)
      refine lv_goto (tgt := 177) hx hb d_Disk_commit_200 (by decide) ?_
      exact ih _ _ _ hP hD hS (lv_sub hl [1, 0] rfl)
    · intro H locs ls hP hD hS hl
      have hP : va_P D classes (dW k q wk (hmN (lgN wk (fl dt ld 24) lg (cnt dt 24)) (fl dt ld 24) hm (cnt dt 24)) (lgN wk (fl dt ld 24) lg (cnt dt 24)) (dcl (fl dt ld 24) dt (cnt dt 24)) (fl dt ld 24) (cnt dt 24) false on (un - 1) sh) H := hP
      have hD : va_D A (dW k q wk (hmN (lgN wk (fl dt ld 24) lg (cnt dt 24)) (fl dt ld 24) hm (cnt dt 24)) (lgN wk (fl dt ld 24) lg (cnt dt 24)) (dcl (fl dt ld 24) dt (cnt dt 24)) (fl dt ld 24) (cnt dt 24) false on (un - 1) sh) := hD
      have hl : lv_has ls 4 [(0, .ref (q 1)), (3, .int (nI (cnt dt 24)))] := hl
      refine lv_iload_n hx hb d_Disk_commit_177 rfl (lv_at hl 1 rfl) ?_
      refine lv_aload_n hx hb d_Disk_commit_178 rfl (lv_at hl 0 rfl) ?_
      refine va_get (D := D) (ci := 1) (v := .int (nI (cnt dt 24))) (C := R_Disk) (T := F_Disk) (N := 10) hx hb htw i_Disk hown hK hP 0 rfl rfl 5 (by decide) (htw _ tw_35) (fun _ h9 => h9) rfl d_Disk_commit_179 ?_
      refine my_icmpge (tgt := 203) hx hb (x := cnt dt 24) (y := cnt dt 24) (by omega) (by omega) d_Disk_commit_182 (by decide) (fun c_182 => ?_) (fun c_182 => absurd c_182 (by omega))
      refine lv_iconst (v := (nI 1)) hx hb d_Disk_commit_203 (by decide) ?_
      refine lv_as (y := (bI true)) rfl ?_
      exact ret_z hx hb hr hlocks hK hP hD hS (v := true) rfl d_Disk_commit_204
end
section
/-- a block and a place in it -/
def isP (b p : Int32) : Prop := ∃ x y : Nat, x < 24 ∧ y < 16 ∧ b = nI x ∧ p = nI y
def blP (b : Int32) : Prop := ∃ x : Nat, x < 24 ∧ b = nI x
def cutP (n a : Int32) : Prop := ∃ x y : Nat, 1 ≤ x ∧ x ≤ 1000 ∧ y < 1000 ∧ n = nI x ∧ a = nI y
def stP (a : Int32) : Prop := ∃ x : Nat, x ≤ 1000 ∧ a = nI x
theorem ge_gt {n : Nat} {x : Int32} (hn : n + 1 < 2 ^ 31) (h : nI (n + 1) ≤ x) : nI n < x := by
  rw [Int32.le_iff_toInt_le, nI_toInt hn] at h
  rw [Int32.lt_iff_toInt_lt, nI_toInt (by omega)]
  omega
theorem gt_ge {n : Nat} {x : Int32} (hn : n + 1 < 2 ^ 31) (h : nI n < x) : nI (n + 1) ≤ x := by
  rw [Int32.lt_iff_toInt_lt, nI_toInt (by omega)] at h
  rw [Int32.le_iff_toInt_le, nI_toInt hn]
  omega
theorem isP_of {b p : Int32} (h1 : ¬ b < 0) (h2 : ¬ nI 24 ≤ b) (h3 : ¬ p < 0) (h4 : ¬ nI 16 ≤ p) : isP b p := by
  rcases pk_ix b (n := 24) (by decide) with h | h | ⟨x, hx, rfl⟩
  · exact absurd h h1
  · exact absurd h h2
  · rcases pk_ix p (n := 16) (by decide) with h | h | ⟨y, hy, rfl⟩
    · exact absurd h h3
    · exact absurd h h4
    · exact ⟨x, y, hx, hy, rfl, rfl⟩
theorem cutP_of {n a : Int32} (h1 : ¬ n < nI 1) (h2 : ¬ nI 1000 < n) (h3 : ¬ a < 0) (h4 : a < nI 1000) : cutP n a := by
  rcases pk_ix n (n := 1001) (by decide) with h | h | ⟨x, hx, rfl⟩
  · exact absurd (Int32.lt_trans h (by decide)) h1
  · exact absurd (ge_gt (by decide) h) h2
  · rcases pk_ix a (n := 1000) (by decide) with h | h | ⟨y, hy, rfl⟩
    · exact absurd h h3
    · exact absurd h (Int32.not_le.mpr h4)
    · refine ⟨x, y, ?_, by omega, hy, rfl, rfl⟩
      rcases Nat.lt_or_ge x 1 with z | z
      · exact absurd ((nI_ltI (by omega) (by decide)).mpr z) h1
      · exact z
theorem stP_of {a : Int32} (h1 : ¬ a < 0) (h2 : a ≤ nI 1000) : stP a := by
  rcases pk_ix a (n := 1001) (by decide) with h | h | ⟨x, hx, rfl⟩
  · exact absurd h h1
  · exact absurd (ge_gt (n := 1000) (by decide) h) (Int32.not_lt.mpr h2)
  · exact ⟨x, by omega, rfl⟩
set_option maxHeartbeats 4000000 in
set_option maxRecDepth 100000 in
theorem c_Log_is_y (l : Launch) (D : va_G) (k : Nat → ClassId) (b p : Nat) (hb24 : b < 24) (hp16 : p < 16) : Ci l D (tyK k) y_Log_is k_Log_is ({ frames := 0, cells := 0, slots := 0, locals := 0 }) [.int (nI b), .int (nI p)] ([]) (bI true) ([]) := by
  refine open_i (by decide) (Nat.le_of_ble_eq_true rfl) ?_
  intro pg ev s m below meth c A hx hb hml hr hlocks htw hown hnm hA hS hP hK hD hN ls hl
  have hown : s.vm.findClass R_Log = some m.cls := hown
  have hl : lv_has ls 2 [(0, .int (nI b)), (1, .int (nI p))] := hl
  refine lv_iload_n hx hb d_Log_is_0 rfl (lv_at hl 0 rfl) ?_
  refine lv_if_lt (tgt := 24) hx hb d_Log_is_1 (by decide) (fun c_1 => absurd c_1 (nI_pos (by omega))) (fun c_1 => ?_)
  refine lv_iload_n hx hb d_Log_is_4 rfl (lv_at hl 0 rfl) ?_
  refine lv_bipush (v := (nI 24)) hx hb d_Log_is_5 (by decide) ?_
  refine my_icmpge (tgt := 24) hx hb (x := b) (y := 24) (by omega) (by omega) d_Log_is_7 (by decide) (fun c_7 => absurd c_7 (by omega)) (fun c_7 => ?_)
  refine lv_iload_n hx hb d_Log_is_10 rfl (lv_at hl 1 rfl) ?_
  refine lv_if_lt (tgt := 24) hx hb d_Log_is_11 (by decide) (fun c_11 => absurd c_11 (nI_pos (by omega))) (fun c_11 => ?_)
  refine lv_iload_n hx hb d_Log_is_14 rfl (lv_at hl 1 rfl) ?_
  refine lv_bipush (v := (nI 16)) hx hb d_Log_is_15 (by decide) ?_
  refine my_icmpge (tgt := 24) hx hb (x := p) (y := 16) (by omega) (by omega) d_Log_is_17 (by decide) (fun c_17 => absurd c_17 (by omega)) (fun c_17 => ?_)
  refine lv_iconst (v := (nI 1)) hx hb d_Log_is_20 (by decide) ?_
  refine lv_goto (tgt := 25) hx hb d_Log_is_21 (by decide) ?_
  refine lv_as (y := (bI true)) rfl ?_
  exact ret_z hx hb hr hlocks hK hP hD hS (v := true) rfl d_Log_is_25
set_option maxHeartbeats 4000000 in
set_option maxRecDepth 100000 in
theorem c_Log_is_n (l : Launch) (D : va_G) (k : Nat → ClassId) (b p : Int32) (hno : ¬ isP b p) : Ci l D (tyK k) y_Log_is k_Log_is ({ frames := 0, cells := 0, slots := 0, locals := 0 }) [.int b, .int p] ([]) (bI false) ([]) := by
  refine open_i (by decide) (Nat.le_of_ble_eq_true rfl) ?_
  intro pg ev s m below meth c A hx hb hml hr hlocks htw hown hnm hA hS hP hK hD hN ls hl
  have hown : s.vm.findClass R_Log = some m.cls := hown
  have hl : lv_has ls 2 [(0, .int b), (1, .int p)] := hl
  refine lv_iload_n hx hb d_Log_is_0 rfl (lv_at hl 0 rfl) ?_
  refine lv_if_lt (tgt := 24) hx hb d_Log_is_1 (by decide) (fun c_1 => ?_) (fun c_1 => ?_)
  · refine lv_iconst (v := (nI 0)) hx hb d_Log_is_24 (by decide) ?_
    refine lv_as (y := (bI false)) rfl ?_
    exact ret_z hx hb hr hlocks hK hP hD hS (v := false) rfl d_Log_is_25
  · refine lv_iload_n hx hb d_Log_is_4 rfl (lv_at hl 0 rfl) ?_
    refine lv_bipush (v := (nI 24)) hx hb d_Log_is_5 (by decide) ?_
    refine lv_icmp_ge (tgt := 24) hx hb d_Log_is_7 (by decide) (fun c_7 => ?_) (fun c_7 => ?_)
    · refine lv_iconst (v := (nI 0)) hx hb d_Log_is_24 (by decide) ?_
      refine lv_as (y := (bI false)) rfl ?_
      exact ret_z hx hb hr hlocks hK hP hD hS (v := false) rfl d_Log_is_25
    · refine lv_iload_n hx hb d_Log_is_10 rfl (lv_at hl 1 rfl) ?_
      refine lv_if_lt (tgt := 24) hx hb d_Log_is_11 (by decide) (fun c_11 => ?_) (fun c_11 => ?_)
      · refine lv_iconst (v := (nI 0)) hx hb d_Log_is_24 (by decide) ?_
        refine lv_as (y := (bI false)) rfl ?_
        exact ret_z hx hb hr hlocks hK hP hD hS (v := false) rfl d_Log_is_25
      · refine lv_iload_n hx hb d_Log_is_14 rfl (lv_at hl 1 rfl) ?_
        refine lv_bipush (v := (nI 16)) hx hb d_Log_is_15 (by decide) ?_
        refine lv_icmp_ge (tgt := 24) hx hb d_Log_is_17 (by decide) (fun c_17 => ?_) (fun c_17 => ?_)
        · refine lv_iconst (v := (nI 0)) hx hb d_Log_is_24 (by decide) ?_
          refine lv_as (y := (bI false)) rfl ?_
          exact ret_z hx hb hr hlocks hK hP hD hS (v := false) rfl d_Log_is_25
        · exact absurd (isP_of c_1 c_7 c_11 c_17) hno
set_option maxHeartbeats 4000000 in
set_option maxRecDepth 100000 in
theorem c_Log_write_off (l : Launch) (D : va_G) (k : Nat → ClassId) (q : Nat → Nat) (wk hm lg : Nat → Int8) (dt : Nat → Bool) (ld : Nat → Nat) (ct : Nat) (mk : Bool) (un sh : Nat) (b p v : Int32) : Ci l D (tyK k) y_Log_write k_Log_write ({ frames := 1, cells := 0, slots := 0, locals := 21 }) [.ref (q 0), .int b, .int p, .int v] (cW k q wk hm lg dt ld ct mk false un sh) (bI false) (cW k q wk hm lg dt ld ct mk false un sh) := by
  refine open_i (by decide) (Nat.le_of_ble_eq_true rfl) ?_
  intro pg ev s m below meth c A hx hb hml hr hlocks htw hown hnm hA hS hP hK hD hN ls hl
  have hown : s.vm.findClass R_Log = some m.cls := hown
  have hl : lv_has ls 4 [(0, .ref (q 0)), (1, .int b), (2, .int p), (3, .int v)] := hl
  refine lv_aload_n hx hb d_Log_write_0 rfl (lv_at hl 0 rfl) ?_
  refine va_get (D := D) (ci := 0) (v := .ref (q 1)) (C := R_Log) (T := F_Log) (N := 1) hx hb htw i_Log hown hK hP 0 rfl rfl 0 (by decide) (htw _ tw_69) (fun _ h9 => h9) rfl d_Log_write_1 ?_
  refine va_getN (D := D) (ci := 1) (v := .int (bI false)) (C := R_Disk) (T := F_Disk) (N := 10) hx hb htw i_Disk hown hK hP 1 rfl rfl 7 (by decide) (NW.w16 hN) (fun _ h9 => h9) rfl d_Log_write_4 ?_
  refine my_ifeq (tgt := 18) hx hb d_Log_write_7 (by decide) (fun _ => ?_) (fun c => absurd c (by decide))
  refine lv_iconst (v := (nI 0)) hx hb d_Log_write_18 (by decide) ?_
  refine lv_as (y := (bI false)) rfl ?_
  exact ret_z hx hb hr hlocks hK hP hD hS (v := false) rfl d_Log_write_19
set_option maxHeartbeats 4000000 in
set_option maxRecDepth 100000 in
theorem c_Log_write_n (l : Launch) (D : va_G) (k : Nat → ClassId) (q : Nat → Nat) (wk hm lg : Nat → Int8) (dt : Nat → Bool) (ld : Nat → Nat) (ct : Nat) (mk : Bool) (un sh : Nat) (b p v : Int32) (hno : ¬ isP b p) : Ci l D (tyK k) y_Log_write k_Log_write ({ frames := 1, cells := 0, slots := 0, locals := 21 }) [.ref (q 0), .int b, .int p, .int v] (cW k q wk hm lg dt ld ct mk true un sh) (bI false) (cW k q wk hm lg dt ld ct mk true un sh) := by
  refine open_i (by decide) (Nat.le_of_ble_eq_true rfl) ?_
  intro pg ev s m below meth c A hx hb hml hr hlocks htw hown hnm hA hS hP hK hD hN ls hl
  have hown : s.vm.findClass R_Log = some m.cls := hown
  have hl : lv_has ls 4 [(0, .ref (q 0)), (1, .int b), (2, .int p), (3, .int v)] := hl
  refine lv_aload_n hx hb d_Log_write_0 rfl (lv_at hl 0 rfl) ?_
  refine va_get (D := D) (ci := 0) (v := .ref (q 1)) (C := R_Log) (T := F_Log) (N := 1) hx hb htw i_Log hown hK hP 0 rfl rfl 0 (by decide) (htw _ tw_69) (fun _ h9 => h9) rfl d_Log_write_1 ?_
  refine va_getN (D := D) (ci := 1) (v := .int (bI true)) (C := R_Disk) (T := F_Disk) (N := 10) hx hb htw i_Disk hown hK hP 1 rfl rfl 7 (by decide) (NW.w16 hN) (fun _ h9 => h9) rfl d_Log_write_4 ?_
  refine my_ifeq (tgt := 18) hx hb d_Log_write_7 (by decide) (fun c => absurd c (by decide)) (fun _ => ?_)
  refine lv_iload_n hx hb d_Log_write_10 rfl (lv_at hl 1 rfl) ?_
  refine lv_iload_n hx hb d_Log_write_11 rfl (lv_at hl 2 rfl) ?_
  refine call_Si (n := 2) (As := [.int b, .int p]) (ws' := cW k q wk hm lg dt ld ct mk true un sh) ⟨hx, hb, hml, hown, htw⟩ (c_Log_is_n l D k b p hno) (in_S tw_77 tw_78 tw_9 tw_79) (by decide +kernel) ⟨rfl, rfl, Nat.le_of_ble_eq_true rfl, Nat.le_of_ble_eq_true rfl⟩ hK hN hP hD hS hA [] [0, 1, 2, 3, 4, 5, 6] [0, 1, 2, 3, 4, 5, 6] rfl rfl ([oL q, oD q ct mk true un sh, aB k (q 2) wk, aB k (q 3) hm, aB k (q 4) lg, aZ k (q 5) dt, aN k (q 6) ld]) rfl rfl (by decide) rfl rfl hl.1 rfl rfl (Nat.le_of_ble_eq_true rfl) d_Log_write_12 ⟨Nat.zero_le _, Nat.zero_le _⟩ (fun H locs hP hD hS => ?_)
  refine my_ifne (tgt := 20) hx hb d_Log_write_15 (by decide) (fun c => absurd c (by decide)) (fun _ => ?_)
  refine lv_iconst (v := (nI 0)) hx hb d_Log_write_18 (by decide) ?_
  refine lv_as (y := (bI false)) rfl ?_
  exact ret_z hx hb hr hlocks hK hP hD hS (v := false) rfl d_Log_write_19
set_option maxHeartbeats 4000000 in
set_option maxRecDepth 100000 in
theorem c_Log_write_y (l : Launch) (D : va_G) (k : Nat → ClassId) (q : Nat → Nat) (wk hm lg : Nat → Int8) (dt : Nat → Bool) (ld : Nat → Nat) (ct : Nat) (mk : Bool) (un sh : Nat) (b p : Nat) (v : Int32) (hb24 : b < 24) (hp16 : p < 16) : Ci l D (tyK k) y_Log_write k_Log_write ({ frames := 1, cells := 0, slots := 0, locals := 21 }) [.ref (q 0), .int (nI b), .int (nI p), .int v] (cW k q wk hm lg dt ld ct mk true un sh) (bI true) (cW k q (va_up wk (16 * b + p) v.toInt8) hm lg (va_up dt b true) ld ct mk true un sh) := by
  refine open_i (by decide) (Nat.le_of_ble_eq_true rfl) ?_
  intro pg ev s m below meth c A hx hb hml hr hlocks htw hown hnm hA hS hP hK hD hN ls hl
  have hown : s.vm.findClass R_Log = some m.cls := hown
  have hl : lv_has ls 4 [(0, .ref (q 0)), (1, .int (nI b)), (2, .int (nI p)), (3, .int v)] := hl
  refine lv_aload_n hx hb d_Log_write_0 rfl (lv_at hl 0 rfl) ?_
  refine va_get (D := D) (ci := 0) (v := .ref (q 1)) (C := R_Log) (T := F_Log) (N := 1) hx hb htw i_Log hown hK hP 0 rfl rfl 0 (by decide) (htw _ tw_69) (fun _ h9 => h9) rfl d_Log_write_1 ?_
  refine va_getN (D := D) (ci := 1) (v := .int (bI true)) (C := R_Disk) (T := F_Disk) (N := 10) hx hb htw i_Disk hown hK hP 1 rfl rfl 7 (by decide) (NW.w16 hN) (fun _ h9 => h9) rfl d_Log_write_4 ?_
  refine my_ifeq (tgt := 18) hx hb d_Log_write_7 (by decide) (fun c => absurd c (by decide)) (fun _ => ?_)
  refine lv_iload_n hx hb d_Log_write_10 rfl (lv_at hl 1 rfl) ?_
  refine lv_iload_n hx hb d_Log_write_11 rfl (lv_at hl 2 rfl) ?_
  refine call_Si (n := 2) (As := [.int (nI b), .int (nI p)]) (ws' := cW k q wk hm lg dt ld ct mk true un sh) ⟨hx, hb, hml, hown, htw⟩ (c_Log_is_y l D k b p hb24 hp16) (in_S tw_77 tw_78 tw_9 tw_79) (by decide +kernel) ⟨rfl, rfl, Nat.le_of_ble_eq_true rfl, Nat.le_of_ble_eq_true rfl⟩ hK hN hP hD hS hA [] [0, 1, 2, 3, 4, 5, 6] [0, 1, 2, 3, 4, 5, 6] rfl rfl ([oL q, oD q ct mk true un sh, aB k (q 2) wk, aB k (q 3) hm, aB k (q 4) lg, aZ k (q 5) dt, aN k (q 6) ld]) rfl rfl (by decide) rfl rfl hl.1 rfl rfl (Nat.le_of_ble_eq_true rfl) d_Log_write_12 ⟨Nat.zero_le _, Nat.zero_le _⟩ (fun H locs hP hD hS => ?_)
  refine my_ifne (tgt := 20) hx hb d_Log_write_15 (by decide) (fun _ => ?_) (fun c => absurd c (by decide))
  refine lv_aload_n hx hb d_Log_write_20 rfl (lv_at hl 0 rfl) ?_
  refine va_get (D := D) (ci := 0) (v := .ref (q 1)) (C := R_Log) (T := F_Log) (N := 1) hx hb htw i_Log hown hK hP 0 rfl rfl 0 (by decide) (htw _ tw_69) (fun _ h9 => h9) rfl d_Log_write_21 ?_
  refine va_getN (D := D) (ci := 1) (v := .ref (q 2)) (C := R_Disk) (T := F_Disk) (N := 10) hx hb htw i_Disk hown hK hP 1 rfl rfl 0 (by decide) (NW.w24 hN) (fun _ h9 => h9) rfl d_Log_write_24 ?_
  refine lv_iload_n hx hb d_Log_write_27 rfl (lv_at hl 1 rfl) ?_
  refine lv_bipush (v := (nI 16)) hx hb d_Log_write_28 (by decide) ?_
  refine my_imul hx hb (x := b) (y := 16) d_Log_write_30 ?_
  refine lv_as (y := (nI (16 * b))) (congrArg nI (Nat.mul_comm _ _)) ?_
  refine lv_iload_n hx hb d_Log_write_31 rfl (lv_at hl 2 rfl) ?_
  refine my_iadd hx hb (x := 16 * b) (y := p) d_Log_write_32 ?_
  refine lv_iload_n hx hb d_Log_write_33 rfl (lv_at hl 3 rfl) ?_
  refine lv_i2b (v := (v.toInt8).toInt32) hx hb d_Log_write_34 rfl ?_
  refine my_bast hx hb hK hP hD hS 2 0 rfl rfl (i := (16 * b) + p) (v := v.toInt8) (by omega) (by decide) d_Log_write_35 (fun H locs hP hD hS => ?_)
  have hP : va_P D classes (cW k q (va_up wk ((16 * b) + p) v.toInt8) hm lg dt ld ct mk true un sh) H := hP
  have hD : va_D A (cW k q (va_up wk ((16 * b) + p) v.toInt8) hm lg dt ld ct mk true un sh) := hD
  refine lv_aload_n hx hb d_Log_write_36 rfl (lv_at hl 0 rfl) ?_
  refine va_get (D := D) (ci := 0) (v := .ref (q 1)) (C := R_Log) (T := F_Log) (N := 1) hx hb htw i_Log hown hK hP 0 rfl rfl 0 (by decide) (htw _ tw_69) (fun _ h9 => h9) rfl d_Log_write_37 ?_
  refine lv_iload_n hx hb d_Log_write_40 rfl (lv_at hl 1 rfl) ?_
  refine call_Vv (n := 1) (As := [.int (nI b)]) (ws' := cW k q (va_up wk ((16 * b) + p) v.toInt8) hm lg (va_up dt b true) ld ct mk true un sh) ⟨hx, hb, hml, hown, htw⟩ (c_Disk_touch l D k q (va_up wk ((16 * b) + p) v.toInt8) hm lg dt ld ct mk true un sh b hb24) (in_V tw_80 tw_81 tw_82 tw_10 tw_83) (by decide +kernel) ⟨rfl, rfl, Nat.le_of_ble_eq_true rfl, Nat.le_of_ble_eq_true rfl⟩ hK hN hP hD hS hA [1, 2, 3, 4, 5, 6] [0] [0, 1, 2, 3, 4, 5, 6] rfl rfl ([oL q]) rfl rfl (by decide) rfl rfl 1 rfl 1 rfl hl.1 rfl rfl (Nat.le_of_ble_eq_true rfl) d_Log_write_41 ⟨Nat.zero_le _, Nat.zero_le _⟩ (fun H locs hP hD hS => ?_)
  refine lv_iconst (v := (nI 1)) hx hb d_Log_write_44 (by decide) ?_
  refine lv_as (y := (bI true)) rfl ?_
  exact ret_z hx hb hr hlocks hK hP hD hS (v := true) rfl d_Log_write_45
set_option maxHeartbeats 4000000 in
set_option maxRecDepth 100000 in
theorem c_Log_read_off (l : Launch) (D : va_G) (k : Nat → ClassId) (q : Nat → Nat) (wk hm lg : Nat → Int8) (dt : Nat → Bool) (ld : Nat → Nat) (ct : Nat) (mk : Bool) (un sh : Nat) (b p : Int32) : Ci l D (tyK k) y_Log_read k_Log_read ({ frames := 1, cells := 0, slots := 0, locals := 21 }) [.ref (q 0), .int b, .int p] (cW k q wk hm lg dt ld ct mk false un sh) (-1) (cW k q wk hm lg dt ld ct mk false un sh) := by
  refine open_i (by decide) (Nat.le_of_ble_eq_true rfl) ?_
  intro pg ev s m below meth c A hx hb hml hr hlocks htw hown hnm hA hS hP hK hD hN ls hl
  have hown : s.vm.findClass R_Log = some m.cls := hown
  have hl : lv_has ls 3 [(0, .ref (q 0)), (1, .int b), (2, .int p)] := hl
  refine lv_aload_n hx hb d_Log_read_0 rfl (lv_at hl 0 rfl) ?_
  refine va_get (D := D) (ci := 0) (v := .ref (q 1)) (C := R_Log) (T := F_Log) (N := 1) hx hb htw i_Log hown hK hP 0 rfl rfl 0 (by decide) (htw _ tw_69) (fun _ h9 => h9) rfl d_Log_read_1 ?_
  refine va_getN (D := D) (ci := 1) (v := .int (bI false)) (C := R_Disk) (T := F_Disk) (N := 10) hx hb htw i_Disk hown hK hP 1 rfl rfl 7 (by decide) (NW.w16 hN) (fun _ h9 => h9) rfl d_Log_read_4 ?_
  refine my_ifeq (tgt := 39) hx hb d_Log_read_7 (by decide) (fun _ => ?_) (fun c => absurd c (by decide))
  refine lv_iconst (v := -1) hx hb d_Log_read_39 (by decide) ?_
  exact ret_i hx hb hr hlocks hK hP hD hS rfl d_Log_read_40
set_option maxHeartbeats 4000000 in
set_option maxRecDepth 100000 in
theorem c_Log_read_n (l : Launch) (D : va_G) (k : Nat → ClassId) (q : Nat → Nat) (wk hm lg : Nat → Int8) (dt : Nat → Bool) (ld : Nat → Nat) (ct : Nat) (mk : Bool) (un sh : Nat) (b p : Int32) (hno : ¬ isP b p) : Ci l D (tyK k) y_Log_read k_Log_read ({ frames := 1, cells := 0, slots := 0, locals := 21 }) [.ref (q 0), .int b, .int p] (cW k q wk hm lg dt ld ct mk true un sh) (-1) (cW k q wk hm lg dt ld ct mk true un sh) := by
  refine open_i (by decide) (Nat.le_of_ble_eq_true rfl) ?_
  intro pg ev s m below meth c A hx hb hml hr hlocks htw hown hnm hA hS hP hK hD hN ls hl
  have hown : s.vm.findClass R_Log = some m.cls := hown
  have hl : lv_has ls 3 [(0, .ref (q 0)), (1, .int b), (2, .int p)] := hl
  refine lv_aload_n hx hb d_Log_read_0 rfl (lv_at hl 0 rfl) ?_
  refine va_get (D := D) (ci := 0) (v := .ref (q 1)) (C := R_Log) (T := F_Log) (N := 1) hx hb htw i_Log hown hK hP 0 rfl rfl 0 (by decide) (htw _ tw_69) (fun _ h9 => h9) rfl d_Log_read_1 ?_
  refine va_getN (D := D) (ci := 1) (v := .int (bI true)) (C := R_Disk) (T := F_Disk) (N := 10) hx hb htw i_Disk hown hK hP 1 rfl rfl 7 (by decide) (NW.w16 hN) (fun _ h9 => h9) rfl d_Log_read_4 ?_
  refine my_ifeq (tgt := 39) hx hb d_Log_read_7 (by decide) (fun c => absurd c (by decide)) (fun _ => ?_)
  refine lv_iload_n hx hb d_Log_read_10 rfl (lv_at hl 1 rfl) ?_
  refine lv_iload_n hx hb d_Log_read_11 rfl (lv_at hl 2 rfl) ?_
  refine call_Si (n := 2) (As := [.int b, .int p]) (ws' := cW k q wk hm lg dt ld ct mk true un sh) ⟨hx, hb, hml, hown, htw⟩ (c_Log_is_n l D k b p hno) (in_S tw_77 tw_78 tw_9 tw_79) (by decide +kernel) ⟨rfl, rfl, Nat.le_of_ble_eq_true rfl, Nat.le_of_ble_eq_true rfl⟩ hK hN hP hD hS hA [] [0, 1, 2, 3, 4, 5, 6] [0, 1, 2, 3, 4, 5, 6] rfl rfl ([oL q, oD q ct mk true un sh, aB k (q 2) wk, aB k (q 3) hm, aB k (q 4) lg, aZ k (q 5) dt, aN k (q 6) ld]) rfl rfl (by decide) rfl rfl hl.1 rfl rfl (Nat.le_of_ble_eq_true rfl) d_Log_read_12 ⟨Nat.zero_le _, Nat.zero_le _⟩ (fun H locs hP hD hS => ?_)
  refine my_ifeq (tgt := 39) hx hb d_Log_read_15 (by decide) (fun _ => ?_) (fun c => absurd c (by decide))
  refine lv_iconst (v := -1) hx hb d_Log_read_39 (by decide) ?_
  exact ret_i hx hb hr hlocks hK hP hD hS rfl d_Log_read_40
set_option maxHeartbeats 4000000 in
set_option maxRecDepth 100000 in
theorem c_Log_read_y (l : Launch) (D : va_G) (k : Nat → ClassId) (q : Nat → Nat) (wk hm lg : Nat → Int8) (dt : Nat → Bool) (ld : Nat → Nat) (ct : Nat) (mk : Bool) (un sh : Nat) (b p : Nat) (hb24 : b < 24) (hp16 : p < 16) : Ci l D (tyK k) y_Log_read k_Log_read ({ frames := 1, cells := 0, slots := 0, locals := 21 }) [.ref (q 0), .int (nI b), .int (nI p)] (cW k q wk hm lg dt ld ct mk true un sh) ((wk (16 * b + p)).toInt32 &&& nI 255) (cW k q wk hm lg dt ld ct mk true un sh) := by
  refine open_i (by decide) (Nat.le_of_ble_eq_true rfl) ?_
  intro pg ev s m below meth c A hx hb hml hr hlocks htw hown hnm hA hS hP hK hD hN ls hl
  have hown : s.vm.findClass R_Log = some m.cls := hown
  have hl : lv_has ls 3 [(0, .ref (q 0)), (1, .int (nI b)), (2, .int (nI p))] := hl
  refine lv_aload_n hx hb d_Log_read_0 rfl (lv_at hl 0 rfl) ?_
  refine va_get (D := D) (ci := 0) (v := .ref (q 1)) (C := R_Log) (T := F_Log) (N := 1) hx hb htw i_Log hown hK hP 0 rfl rfl 0 (by decide) (htw _ tw_69) (fun _ h9 => h9) rfl d_Log_read_1 ?_
  refine va_getN (D := D) (ci := 1) (v := .int (bI true)) (C := R_Disk) (T := F_Disk) (N := 10) hx hb htw i_Disk hown hK hP 1 rfl rfl 7 (by decide) (NW.w16 hN) (fun _ h9 => h9) rfl d_Log_read_4 ?_
  refine my_ifeq (tgt := 39) hx hb d_Log_read_7 (by decide) (fun c => absurd c (by decide)) (fun _ => ?_)
  refine lv_iload_n hx hb d_Log_read_10 rfl (lv_at hl 1 rfl) ?_
  refine lv_iload_n hx hb d_Log_read_11 rfl (lv_at hl 2 rfl) ?_
  refine call_Si (n := 2) (As := [.int (nI b), .int (nI p)]) (ws' := cW k q wk hm lg dt ld ct mk true un sh) ⟨hx, hb, hml, hown, htw⟩ (c_Log_is_y l D k b p hb24 hp16) (in_S tw_77 tw_78 tw_9 tw_79) (by decide +kernel) ⟨rfl, rfl, Nat.le_of_ble_eq_true rfl, Nat.le_of_ble_eq_true rfl⟩ hK hN hP hD hS hA [] [0, 1, 2, 3, 4, 5, 6] [0, 1, 2, 3, 4, 5, 6] rfl rfl ([oL q, oD q ct mk true un sh, aB k (q 2) wk, aB k (q 3) hm, aB k (q 4) lg, aZ k (q 5) dt, aN k (q 6) ld]) rfl rfl (by decide) rfl rfl hl.1 rfl rfl (Nat.le_of_ble_eq_true rfl) d_Log_read_12 ⟨Nat.zero_le _, Nat.zero_le _⟩ (fun H locs hP hD hS => ?_)
  refine my_ifeq (tgt := 39) hx hb d_Log_read_15 (by decide) (fun c => absurd c (by decide)) (fun _ => ?_)
  refine lv_aload_n hx hb d_Log_read_18 rfl (lv_at hl 0 rfl) ?_
  refine va_get (D := D) (ci := 0) (v := .ref (q 1)) (C := R_Log) (T := F_Log) (N := 1) hx hb htw i_Log hown hK hP 0 rfl rfl 0 (by decide) (htw _ tw_69) (fun _ h9 => h9) rfl d_Log_read_19 ?_
  refine va_getN (D := D) (ci := 1) (v := .ref (q 2)) (C := R_Disk) (T := F_Disk) (N := 10) hx hb htw i_Disk hown hK hP 1 rfl rfl 0 (by decide) (NW.w24 hN) (fun _ h9 => h9) rfl d_Log_read_22 ?_
  refine lv_iload_n hx hb d_Log_read_25 rfl (lv_at hl 1 rfl) ?_
  refine lv_bipush (v := (nI 16)) hx hb d_Log_read_26 (by decide) ?_
  refine my_imul hx hb (x := b) (y := 16) d_Log_read_28 ?_
  refine lv_as (y := (nI (16 * b))) (congrArg nI (Nat.mul_comm _ _)) ?_
  refine lv_iload_n hx hb d_Log_read_29 rfl (lv_at hl 2 rfl) ?_
  refine my_iadd hx hb (x := 16 * b) (y := p) d_Log_read_30 ?_
  refine my_bald hx hb hK hP 2 0 rfl rfl (i := (16 * b) + p) (by omega) (by decide) d_Log_read_31 ?_
  refine lv_sipush (v := (nI 255)) hx hb d_Log_read_32 (by decide) ?_
  refine lv_iand hx hb d_Log_read_35 ?_
  refine lv_goto (tgt := 40) hx hb d_Log_read_36 (by decide) ?_
  exact ret_i hx hb hr hlocks hK hP hD hS rfl d_Log_read_40
set_option maxHeartbeats 4000000 in
set_option maxRecDepth 100000 in
theorem c_Log_disk_n (l : Launch) (D : va_G) (k : Nat → ClassId) (q : Nat → Nat) (wk hm lg : Nat → Int8) (dt : Nat → Bool) (ld : Nat → Nat) (ct : Nat) (mk on : Bool) (un sh : Nat) (b p : Int32) (hno : ¬ isP b p) : Ci l D (tyK k) y_Log_disk k_Log_disk ({ frames := 1, cells := 0, slots := 0, locals := 21 }) [.ref (q 0), .int b, .int p] (cW k q wk hm lg dt ld ct mk on un sh) (-1) (cW k q wk hm lg dt ld ct mk on un sh) := by
  refine open_i (by decide) (Nat.le_of_ble_eq_true rfl) ?_
  intro pg ev s m below meth c A hx hb hml hr hlocks htw hown hnm hA hS hP hK hD hN ls hl
  have hown : s.vm.findClass R_Log = some m.cls := hown
  have hl : lv_has ls 3 [(0, .ref (q 0)), (1, .int b), (2, .int p)] := hl
  refine lv_iload_n hx hb d_Log_disk_0 rfl (lv_at hl 1 rfl) ?_
  refine lv_iload_n hx hb d_Log_disk_1 rfl (lv_at hl 2 rfl) ?_
  refine call_Si (n := 2) (As := [.int b, .int p]) (ws' := cW k q wk hm lg dt ld ct mk on un sh) ⟨hx, hb, hml, hown, htw⟩ (c_Log_is_n l D k b p hno) (in_S tw_77 tw_78 tw_9 tw_79) (by decide +kernel) ⟨rfl, rfl, Nat.le_of_ble_eq_true rfl, Nat.le_of_ble_eq_true rfl⟩ hK hN hP hD hS hA [] [0, 1, 2, 3, 4, 5, 6] [0, 1, 2, 3, 4, 5, 6] rfl rfl ([oL q, oD q ct mk on un sh, aB k (q 2) wk, aB k (q 3) hm, aB k (q 4) lg, aZ k (q 5) dt, aN k (q 6) ld]) rfl rfl (by decide) rfl rfl hl.1 rfl rfl (Nat.le_of_ble_eq_true rfl) d_Log_disk_2 ⟨Nat.zero_le _, Nat.zero_le _⟩ (fun H locs hP hD hS => ?_)
  refine my_ifeq (tgt := 29) hx hb d_Log_disk_5 (by decide) (fun _ => ?_) (fun c => absurd c (by decide))
  refine lv_iconst (v := -1) hx hb d_Log_disk_29 (by decide) ?_
  exact ret_i hx hb hr hlocks hK hP hD hS rfl d_Log_disk_30
set_option maxHeartbeats 4000000 in
set_option maxRecDepth 100000 in
theorem c_Log_disk_y (l : Launch) (D : va_G) (k : Nat → ClassId) (q : Nat → Nat) (wk hm lg : Nat → Int8) (dt : Nat → Bool) (ld : Nat → Nat) (ct : Nat) (mk on : Bool) (un sh : Nat) (b p : Nat) (hb24 : b < 24) (hp16 : p < 16) : Ci l D (tyK k) y_Log_disk k_Log_disk ({ frames := 1, cells := 0, slots := 0, locals := 21 }) [.ref (q 0), .int (nI b), .int (nI p)] (cW k q wk hm lg dt ld ct mk on un sh) ((hm (16 * b + p)).toInt32 &&& nI 255) (cW k q wk hm lg dt ld ct mk on un sh) := by
  refine open_i (by decide) (Nat.le_of_ble_eq_true rfl) ?_
  intro pg ev s m below meth c A hx hb hml hr hlocks htw hown hnm hA hS hP hK hD hN ls hl
  have hown : s.vm.findClass R_Log = some m.cls := hown
  have hl : lv_has ls 3 [(0, .ref (q 0)), (1, .int (nI b)), (2, .int (nI p))] := hl
  refine lv_iload_n hx hb d_Log_disk_0 rfl (lv_at hl 1 rfl) ?_
  refine lv_iload_n hx hb d_Log_disk_1 rfl (lv_at hl 2 rfl) ?_
  refine call_Si (n := 2) (As := [.int (nI b), .int (nI p)]) (ws' := cW k q wk hm lg dt ld ct mk on un sh) ⟨hx, hb, hml, hown, htw⟩ (c_Log_is_y l D k b p hb24 hp16) (in_S tw_77 tw_78 tw_9 tw_79) (by decide +kernel) ⟨rfl, rfl, Nat.le_of_ble_eq_true rfl, Nat.le_of_ble_eq_true rfl⟩ hK hN hP hD hS hA [] [0, 1, 2, 3, 4, 5, 6] [0, 1, 2, 3, 4, 5, 6] rfl rfl ([oL q, oD q ct mk on un sh, aB k (q 2) wk, aB k (q 3) hm, aB k (q 4) lg, aZ k (q 5) dt, aN k (q 6) ld]) rfl rfl (by decide) rfl rfl hl.1 rfl rfl (Nat.le_of_ble_eq_true rfl) d_Log_disk_2 ⟨Nat.zero_le _, Nat.zero_le _⟩ (fun H locs hP hD hS => ?_)
  refine my_ifeq (tgt := 29) hx hb d_Log_disk_5 (by decide) (fun c => absurd c (by decide)) (fun _ => ?_)
  refine lv_aload_n hx hb d_Log_disk_8 rfl (lv_at hl 0 rfl) ?_
  refine va_get (D := D) (ci := 0) (v := .ref (q 1)) (C := R_Log) (T := F_Log) (N := 1) hx hb htw i_Log hown hK hP 0 rfl rfl 0 (by decide) (htw _ tw_69) (fun _ h9 => h9) rfl d_Log_disk_9 ?_
  refine va_getN (D := D) (ci := 1) (v := .ref (q 3)) (C := R_Disk) (T := F_Disk) (N := 10) hx hb htw i_Disk hown hK hP 1 rfl rfl 1 (by decide) (NW.w32 hN) (fun _ h9 => h9) rfl d_Log_disk_12 ?_
  refine lv_iload_n hx hb d_Log_disk_15 rfl (lv_at hl 1 rfl) ?_
  refine lv_bipush (v := (nI 16)) hx hb d_Log_disk_16 (by decide) ?_
  refine my_imul hx hb (x := b) (y := 16) d_Log_disk_18 ?_
  refine lv_as (y := (nI (16 * b))) (congrArg nI (Nat.mul_comm _ _)) ?_
  refine lv_iload_n hx hb d_Log_disk_19 rfl (lv_at hl 2 rfl) ?_
  refine my_iadd hx hb (x := 16 * b) (y := p) d_Log_disk_20 ?_
  refine my_bald hx hb hK hP 3 0 rfl rfl (i := (16 * b) + p) (by omega) (by decide) d_Log_disk_21 ?_
  refine lv_sipush (v := (nI 255)) hx hb d_Log_disk_22 (by decide) ?_
  refine lv_iand hx hb d_Log_disk_25 ?_
  refine lv_goto (tgt := 30) hx hb d_Log_disk_26 (by decide) ?_
  exact ret_i hx hb hr hlocks hK hP hD hS rfl d_Log_disk_30
set_option maxHeartbeats 4000000 in
set_option maxRecDepth 100000 in
theorem c_Log_dirty_off (l : Launch) (D : va_G) (k : Nat → ClassId) (q : Nat → Nat) (wk hm lg : Nat → Int8) (dt : Nat → Bool) (ld : Nat → Nat) (ct : Nat) (mk : Bool) (un sh : Nat) (b : Int32) : Ci l D (tyK k) y_Log_dirty k_Log_dirty ({ frames := 1, cells := 0, slots := 0, locals := 21 }) [.ref (q 0), .int b] (cW k q wk hm lg dt ld ct mk false un sh) (bI false) (cW k q wk hm lg dt ld ct mk false un sh) := by
  refine open_i (by decide) (Nat.le_of_ble_eq_true rfl) ?_
  intro pg ev s m below meth c A hx hb hml hr hlocks htw hown hnm hA hS hP hK hD hN ls hl
  have hown : s.vm.findClass R_Log = some m.cls := hown
  have hl : lv_has ls 2 [(0, .ref (q 0)), (1, .int b)] := hl
  refine lv_aload_n hx hb d_Log_dirty_0 rfl (lv_at hl 0 rfl) ?_
  refine va_get (D := D) (ci := 0) (v := .ref (q 1)) (C := R_Log) (T := F_Log) (N := 1) hx hb htw i_Log hown hK hP 0 rfl rfl 0 (by decide) (htw _ tw_69) (fun _ h9 => h9) rfl d_Log_dirty_1 ?_
  refine va_getN (D := D) (ci := 1) (v := .int (bI false)) (C := R_Disk) (T := F_Disk) (N := 10) hx hb htw i_Disk hown hK hP 1 rfl rfl 7 (by decide) (NW.w16 hN) (fun _ h9 => h9) rfl d_Log_dirty_4 ?_
  refine my_ifeq (tgt := 34) hx hb d_Log_dirty_7 (by decide) (fun _ => ?_) (fun c => absurd c (by decide))
  refine lv_iconst (v := (nI 0)) hx hb d_Log_dirty_34 (by decide) ?_
  refine lv_as (y := (bI false)) rfl ?_
  exact ret_z hx hb hr hlocks hK hP hD hS (v := false) rfl d_Log_dirty_35
set_option maxHeartbeats 4000000 in
set_option maxRecDepth 100000 in
theorem c_Log_dirty_n (l : Launch) (D : va_G) (k : Nat → ClassId) (q : Nat → Nat) (wk hm lg : Nat → Int8) (dt : Nat → Bool) (ld : Nat → Nat) (ct : Nat) (mk : Bool) (un sh : Nat) (b : Int32) (hno : ¬ blP b) : Ci l D (tyK k) y_Log_dirty k_Log_dirty ({ frames := 1, cells := 0, slots := 0, locals := 21 }) [.ref (q 0), .int b] (cW k q wk hm lg dt ld ct mk true un sh) (bI false) (cW k q wk hm lg dt ld ct mk true un sh) := by
  refine open_i (by decide) (Nat.le_of_ble_eq_true rfl) ?_
  intro pg ev s m below meth c A hx hb hml hr hlocks htw hown hnm hA hS hP hK hD hN ls hl
  have hown : s.vm.findClass R_Log = some m.cls := hown
  have hl : lv_has ls 2 [(0, .ref (q 0)), (1, .int b)] := hl
  refine lv_aload_n hx hb d_Log_dirty_0 rfl (lv_at hl 0 rfl) ?_
  refine va_get (D := D) (ci := 0) (v := .ref (q 1)) (C := R_Log) (T := F_Log) (N := 1) hx hb htw i_Log hown hK hP 0 rfl rfl 0 (by decide) (htw _ tw_69) (fun _ h9 => h9) rfl d_Log_dirty_1 ?_
  refine va_getN (D := D) (ci := 1) (v := .int (bI true)) (C := R_Disk) (T := F_Disk) (N := 10) hx hb htw i_Disk hown hK hP 1 rfl rfl 7 (by decide) (NW.w16 hN) (fun _ h9 => h9) rfl d_Log_dirty_4 ?_
  refine my_ifeq (tgt := 34) hx hb d_Log_dirty_7 (by decide) (fun c => absurd c (by decide)) (fun _ => ?_)
  refine lv_iload_n hx hb d_Log_dirty_10 rfl (lv_at hl 1 rfl) ?_
  refine lv_iconst (v := (nI 0)) hx hb d_Log_dirty_11 (by decide) ?_
  refine call_Si (n := 2) (As := [.int b, .int (nI 0)]) (ws' := cW k q wk hm lg dt ld ct mk true un sh) ⟨hx, hb, hml, hown, htw⟩ (c_Log_is_n l D k b (nI 0) (fun ⟨x, _, h1, _, h2, _⟩ => hno ⟨x, h1, h2⟩)) (in_S tw_77 tw_78 tw_9 tw_79) (by decide +kernel) ⟨rfl, rfl, Nat.le_of_ble_eq_true rfl, Nat.le_of_ble_eq_true rfl⟩ hK hN hP hD hS hA [] [0, 1, 2, 3, 4, 5, 6] [0, 1, 2, 3, 4, 5, 6] rfl rfl ([oL q, oD q ct mk true un sh, aB k (q 2) wk, aB k (q 3) hm, aB k (q 4) lg, aZ k (q 5) dt, aN k (q 6) ld]) rfl rfl (by decide) rfl rfl hl.1 rfl rfl (Nat.le_of_ble_eq_true rfl) d_Log_dirty_12 ⟨Nat.zero_le _, Nat.zero_le _⟩ (fun H locs hP hD hS => ?_)
  refine my_ifeq (tgt := 34) hx hb d_Log_dirty_15 (by decide) (fun _ => ?_) (fun c => absurd c (by decide))
  refine lv_iconst (v := (nI 0)) hx hb d_Log_dirty_34 (by decide) ?_
  refine lv_as (y := (bI false)) rfl ?_
  exact ret_z hx hb hr hlocks hK hP hD hS (v := false) rfl d_Log_dirty_35
set_option maxHeartbeats 4000000 in
set_option maxRecDepth 100000 in
theorem c_Log_dirty_y (l : Launch) (D : va_G) (k : Nat → ClassId) (q : Nat → Nat) (wk hm lg : Nat → Int8) (dt : Nat → Bool) (ld : Nat → Nat) (ct : Nat) (mk : Bool) (un sh : Nat) (b : Nat) (hb24 : b < 24) : Ci l D (tyK k) y_Log_dirty k_Log_dirty ({ frames := 1, cells := 0, slots := 0, locals := 21 }) [.ref (q 0), .int (nI b)] (cW k q wk hm lg dt ld ct mk true un sh) (bI (dt b)) (cW k q wk hm lg dt ld ct mk true un sh) := by
  refine open_i (by decide) (Nat.le_of_ble_eq_true rfl) ?_
  intro pg ev s m below meth c A hx hb hml hr hlocks htw hown hnm hA hS hP hK hD hN ls hl
  have hown : s.vm.findClass R_Log = some m.cls := hown
  have hl : lv_has ls 2 [(0, .ref (q 0)), (1, .int (nI b))] := hl
  refine lv_aload_n hx hb d_Log_dirty_0 rfl (lv_at hl 0 rfl) ?_
  refine va_get (D := D) (ci := 0) (v := .ref (q 1)) (C := R_Log) (T := F_Log) (N := 1) hx hb htw i_Log hown hK hP 0 rfl rfl 0 (by decide) (htw _ tw_69) (fun _ h9 => h9) rfl d_Log_dirty_1 ?_
  refine va_getN (D := D) (ci := 1) (v := .int (bI true)) (C := R_Disk) (T := F_Disk) (N := 10) hx hb htw i_Disk hown hK hP 1 rfl rfl 7 (by decide) (NW.w16 hN) (fun _ h9 => h9) rfl d_Log_dirty_4 ?_
  refine my_ifeq (tgt := 34) hx hb d_Log_dirty_7 (by decide) (fun c => absurd c (by decide)) (fun _ => ?_)
  refine lv_iload_n hx hb d_Log_dirty_10 rfl (lv_at hl 1 rfl) ?_
  refine lv_iconst (v := (nI 0)) hx hb d_Log_dirty_11 (by decide) ?_
  refine call_Si (n := 2) (As := [.int (nI b), .int (nI 0)]) (ws' := cW k q wk hm lg dt ld ct mk true un sh) ⟨hx, hb, hml, hown, htw⟩ (c_Log_is_y l D k b 0 hb24 (by decide)) (in_S tw_77 tw_78 tw_9 tw_79) (by decide +kernel) ⟨rfl, rfl, Nat.le_of_ble_eq_true rfl, Nat.le_of_ble_eq_true rfl⟩ hK hN hP hD hS hA [] [0, 1, 2, 3, 4, 5, 6] [0, 1, 2, 3, 4, 5, 6] rfl rfl ([oL q, oD q ct mk true un sh, aB k (q 2) wk, aB k (q 3) hm, aB k (q 4) lg, aZ k (q 5) dt, aN k (q 6) ld]) rfl rfl (by decide) rfl rfl hl.1 rfl rfl (Nat.le_of_ble_eq_true rfl) d_Log_dirty_12 ⟨Nat.zero_le _, Nat.zero_le _⟩ (fun H locs hP hD hS => ?_)
  refine my_ifeq (tgt := 34) hx hb d_Log_dirty_15 (by decide) (fun c => absurd c (by decide)) (fun _ => ?_)
  refine lv_aload_n hx hb d_Log_dirty_18 rfl (lv_at hl 0 rfl) ?_
  refine va_get (D := D) (ci := 0) (v := .ref (q 1)) (C := R_Log) (T := F_Log) (N := 1) hx hb htw i_Log hown hK hP 0 rfl rfl 0 (by decide) (htw _ tw_69) (fun _ h9 => h9) rfl d_Log_dirty_19 ?_
  refine va_getN (D := D) (ci := 1) (v := .ref (q 5)) (C := R_Disk) (T := F_Disk) (N := 10) hx hb htw i_Disk hown hK hP 1 rfl rfl 3 (by decide) (NW.w35 hN) (fun _ h9 => h9) rfl d_Log_dirty_22 ?_
  refine lv_iload_n hx hb d_Log_dirty_25 rfl (lv_at hl 1 rfl) ?_
  refine my_zald hx hb hK hP 5 1 rfl rfl (i := b) (by omega) (by decide) d_Log_dirty_26 ?_
  refine my_ifeq (tgt := 34) hx hb d_Log_dirty_27 (by decide) (fun c_27 => ?_) (fun c_27 => ?_)
  · refine lv_iconst (v := (nI 0)) hx hb d_Log_dirty_34 (by decide) ?_
    refine lv_as (y := (bI false)) rfl ?_
    exact ret_z hx hb hr hlocks hK hP hD hS (v := false) (congrArg bI c_27.symm) d_Log_dirty_35
  · refine lv_iconst (v := (nI 1)) hx hb d_Log_dirty_30 (by decide) ?_
    refine lv_goto (tgt := 35) hx hb d_Log_dirty_31 (by decide) ?_
    refine lv_as (y := (bI true)) rfl ?_
    exact ret_z hx hb hr hlocks hK hP hD hS (v := true) (congrArg bI c_27.symm) d_Log_dirty_35
set_option maxHeartbeats 4000000 in
set_option maxRecDepth 100000 in
theorem c_Log_commit_off (l : Launch) (D : va_G) (k : Nat → ClassId) (q : Nat → Nat) (wk hm lg : Nat → Int8) (dt : Nat → Bool) (ld : Nat → Nat) (ct : Nat) (mk : Bool) (un sh : Nat) : Ci l D (tyK k) y_Log_commit k_Log_commit ({ frames := 4, cells := 0, slots := 0, locals := 86 }) [.ref (q 0)] (cW k q wk hm lg dt ld ct mk false un sh) (bI false) (cW k q wk hm lg dt ld ct mk false un sh) := by
  refine open_i (by decide) (Nat.le_of_ble_eq_true rfl) ?_
  intro pg ev s m below meth c A hx hb hml hr hlocks htw hown hnm hA hS hP hK hD hN ls hl
  have hown : s.vm.findClass R_Log = some m.cls := hown
  have hl : lv_has ls 1 [(0, .ref (q 0))] := hl
  refine lv_aload_n hx hb d_Log_commit_0 rfl (lv_at hl 0 rfl) ?_
  refine va_get (D := D) (ci := 0) (v := .ref (q 1)) (C := R_Log) (T := F_Log) (N := 1) hx hb htw i_Log hown hK hP 0 rfl rfl 0 (by decide) (htw _ tw_69) (fun _ h9 => h9) rfl d_Log_commit_1 ?_
  refine va_getN (D := D) (ci := 1) (v := .int (bI false)) (C := R_Disk) (T := F_Disk) (N := 10) hx hb htw i_Disk hown hK hP 1 rfl rfl 7 (by decide) (NW.w16 hN) (fun _ h9 => h9) rfl d_Log_commit_4 ?_
  refine my_ifeq (tgt := 24) hx hb d_Log_commit_7 (by decide) (fun _ => ?_) (fun c => absurd c (by decide))
  refine lv_iconst (v := (nI 0)) hx hb d_Log_commit_24 (by decide) ?_
  refine lv_as (y := (bI false)) rfl ?_
  exact ret_z hx hb hr hlocks hK hP hD hS (v := false) rfl d_Log_commit_25
set_option maxHeartbeats 4000000 in
set_option maxRecDepth 100000 in
theorem c_Log_commit_A (l : Launch) (D : va_G) (k : Nat → ClassId) (q : Nat → Nat) (wk hm lg : Nat → Int8) (dt : Nat → Bool) (ld : Nat → Nat) (ct : Nat) (mk : Bool) (sh : Nat) (hsh : sh < 500) : Ci l D (tyK k) y_Log_commit k_Log_commit ({ frames := 4, cells := 0, slots := 0, locals := 86 }) [.ref (q 0)] (cW k q wk hm lg dt ld ct mk true 1 sh) (bI false) (cW k q wk hm (lgN wk (fl dt ld 24) lg ((cnt dt 24 * sh) / 500)) dt (fl dt ld 24) (cnt dt 24) mk false 0 sh) := by
  refine open_i (by decide) (Nat.le_of_ble_eq_true rfl) ?_
  intro pg ev s m below meth c A hx hb hml hr hlocks htw hown hnm hA hS hP hK hD hN ls hl
  have hown : s.vm.findClass R_Log = some m.cls := hown
  have hl : lv_has ls 1 [(0, .ref (q 0))] := hl
  refine lv_aload_n hx hb d_Log_commit_0 rfl (lv_at hl 0 rfl) ?_
  refine va_get (D := D) (ci := 0) (v := .ref (q 1)) (C := R_Log) (T := F_Log) (N := 1) hx hb htw i_Log hown hK hP 0 rfl rfl 0 (by decide) (htw _ tw_69) (fun _ h9 => h9) rfl d_Log_commit_1 ?_
  refine va_getN (D := D) (ci := 1) (v := .int (bI true)) (C := R_Disk) (T := F_Disk) (N := 10) hx hb htw i_Disk hown hK hP 1 rfl rfl 7 (by decide) (NW.w16 hN) (fun _ h9 => h9) rfl d_Log_commit_4 ?_
  refine my_ifeq (tgt := 24) hx hb d_Log_commit_7 (by decide) (fun c => absurd c (by decide)) (fun _ => ?_)
  refine lv_aload_n hx hb d_Log_commit_10 rfl (lv_at hl 0 rfl) ?_
  refine va_get (D := D) (ci := 0) (v := .ref (q 1)) (C := R_Log) (T := F_Log) (N := 1) hx hb htw i_Log hown hK hP 0 rfl rfl 0 (by decide) (htw _ tw_69) (fun _ h9 => h9) rfl d_Log_commit_11 ?_
  refine call_Vi (n := 0) (As := []) (ws' := cW k q wk hm (lgN wk (fl dt ld 24) lg ((cnt dt 24 * sh) / 500)) dt (fl dt ld 24) (cnt dt 24) mk false 0 sh) ⟨hx, hb, hml, hown, htw⟩ (c_Disk_commit_A l D k q wk hm lg dt ld ct mk true sh hsh) (in_V tw_100 tw_101 tw_102 tw_10 tw_103) (by decide +kernel) ⟨rfl, rfl, Nat.le_of_ble_eq_true rfl, Nat.le_of_ble_eq_true rfl⟩ hK hN hP hD hS hA [1, 2, 3, 4, 5, 6] [0] [0, 1, 2, 3, 4, 5, 6] rfl rfl ([oL q]) rfl rfl (by decide) rfl rfl 1 rfl 1 rfl hl.1 rfl rfl (Nat.le_of_ble_eq_true rfl) d_Log_commit_14 ⟨Nat.zero_le _, Nat.zero_le _⟩ (fun H locs hP hD hS => ?_)
  refine my_ifeq (tgt := 24) hx hb d_Log_commit_17 (by decide) (fun _ => ?_) (fun c => absurd c (by decide))
  refine lv_iconst (v := (nI 0)) hx hb d_Log_commit_24 (by decide) ?_
  refine lv_as (y := (bI false)) rfl ?_
  exact ret_z hx hb hr hlocks hK hP hD hS (v := false) rfl d_Log_commit_25
set_option maxHeartbeats 4000000 in
set_option maxRecDepth 100000 in
theorem c_Log_commit_B (l : Launch) (D : va_G) (k : Nat → ClassId) (q : Nat → Nat) (wk hm lg : Nat → Int8) (dt : Nat → Bool) (ld : Nat → Nat) (ct : Nat) (mk : Bool) (sh : Nat) (hsh : 500 ≤ sh) (hs2 : sh < 1000) : Ci l D (tyK k) y_Log_commit k_Log_commit ({ frames := 4, cells := 0, slots := 0, locals := 86 }) [.ref (q 0)] (cW k q wk hm lg dt ld ct mk true 1 sh) (bI false) (cW k q wk (hmN (lgN wk (fl dt ld 24) lg (cnt dt 24)) (fl dt ld 24) hm ((cnt dt 24 * (sh - 500)) / 500)) (lgN wk (fl dt ld 24) lg (cnt dt 24)) dt (fl dt ld 24) (cnt dt 24) true false 0 sh) := by
  refine open_i (by decide) (Nat.le_of_ble_eq_true rfl) ?_
  intro pg ev s m below meth c A hx hb hml hr hlocks htw hown hnm hA hS hP hK hD hN ls hl
  have hown : s.vm.findClass R_Log = some m.cls := hown
  have hl : lv_has ls 1 [(0, .ref (q 0))] := hl
  refine lv_aload_n hx hb d_Log_commit_0 rfl (lv_at hl 0 rfl) ?_
  refine va_get (D := D) (ci := 0) (v := .ref (q 1)) (C := R_Log) (T := F_Log) (N := 1) hx hb htw i_Log hown hK hP 0 rfl rfl 0 (by decide) (htw _ tw_69) (fun _ h9 => h9) rfl d_Log_commit_1 ?_
  refine va_getN (D := D) (ci := 1) (v := .int (bI true)) (C := R_Disk) (T := F_Disk) (N := 10) hx hb htw i_Disk hown hK hP 1 rfl rfl 7 (by decide) (NW.w16 hN) (fun _ h9 => h9) rfl d_Log_commit_4 ?_
  refine my_ifeq (tgt := 24) hx hb d_Log_commit_7 (by decide) (fun c => absurd c (by decide)) (fun _ => ?_)
  refine lv_aload_n hx hb d_Log_commit_10 rfl (lv_at hl 0 rfl) ?_
  refine va_get (D := D) (ci := 0) (v := .ref (q 1)) (C := R_Log) (T := F_Log) (N := 1) hx hb htw i_Log hown hK hP 0 rfl rfl 0 (by decide) (htw _ tw_69) (fun _ h9 => h9) rfl d_Log_commit_11 ?_
  refine call_Vi (n := 0) (As := []) (ws' := cW k q wk (hmN (lgN wk (fl dt ld 24) lg (cnt dt 24)) (fl dt ld 24) hm ((cnt dt 24 * (sh - 500)) / 500)) (lgN wk (fl dt ld 24) lg (cnt dt 24)) dt (fl dt ld 24) (cnt dt 24) true false 0 sh) ⟨hx, hb, hml, hown, htw⟩ (c_Disk_commit_B l D k q wk hm lg dt ld ct mk true sh hsh hs2) (in_V tw_100 tw_101 tw_102 tw_10 tw_103) (by decide +kernel) ⟨rfl, rfl, Nat.le_of_ble_eq_true rfl, Nat.le_of_ble_eq_true rfl⟩ hK hN hP hD hS hA [1, 2, 3, 4, 5, 6] [0] [0, 1, 2, 3, 4, 5, 6] rfl rfl ([oL q]) rfl rfl (by decide) rfl rfl 1 rfl 1 rfl hl.1 rfl rfl (Nat.le_of_ble_eq_true rfl) d_Log_commit_14 ⟨Nat.zero_le _, Nat.zero_le _⟩ (fun H locs hP hD hS => ?_)
  refine my_ifeq (tgt := 24) hx hb d_Log_commit_17 (by decide) (fun _ => ?_) (fun c => absurd c (by decide))
  refine lv_iconst (v := (nI 0)) hx hb d_Log_commit_24 (by decide) ?_
  refine lv_as (y := (bI false)) rfl ?_
  exact ret_z hx hb hr hlocks hK hP hD hS (v := false) rfl d_Log_commit_25
set_option maxHeartbeats 4000000 in
set_option maxRecDepth 100000 in
theorem c_Log_commit_C (l : Launch) (D : va_G) (k : Nat → ClassId) (q : Nat → Nat) (wk hm lg : Nat → Int8) (dt : Nat → Bool) (ld : Nat → Nat) (ct : Nat) (mk : Bool) (sh : Nat) : Ci l D (tyK k) y_Log_commit k_Log_commit ({ frames := 4, cells := 0, slots := 0, locals := 86 }) [.ref (q 0)] (cW k q wk hm lg dt ld ct mk true 0 sh) (bI true) (cW k q wk (hmN (lgN wk (fl dt ld 24) lg (cnt dt 24)) (fl dt ld 24) hm (cnt dt 24)) (lgN wk (fl dt ld 24) lg (cnt dt 24)) (dcl (fl dt ld 24) dt (cnt dt 24)) (fl dt ld 24) (cnt dt 24) false true 0 sh) := by
  refine open_i (by decide) (Nat.le_of_ble_eq_true rfl) ?_
  intro pg ev s m below meth c A hx hb hml hr hlocks htw hown hnm hA hS hP hK hD hN ls hl
  have hown : s.vm.findClass R_Log = some m.cls := hown
  have hl : lv_has ls 1 [(0, .ref (q 0))] := hl
  refine lv_aload_n hx hb d_Log_commit_0 rfl (lv_at hl 0 rfl) ?_
  refine va_get (D := D) (ci := 0) (v := .ref (q 1)) (C := R_Log) (T := F_Log) (N := 1) hx hb htw i_Log hown hK hP 0 rfl rfl 0 (by decide) (htw _ tw_69) (fun _ h9 => h9) rfl d_Log_commit_1 ?_
  refine va_getN (D := D) (ci := 1) (v := .int (bI true)) (C := R_Disk) (T := F_Disk) (N := 10) hx hb htw i_Disk hown hK hP 1 rfl rfl 7 (by decide) (NW.w16 hN) (fun _ h9 => h9) rfl d_Log_commit_4 ?_
  refine my_ifeq (tgt := 24) hx hb d_Log_commit_7 (by decide) (fun c => absurd c (by decide)) (fun _ => ?_)
  refine lv_aload_n hx hb d_Log_commit_10 rfl (lv_at hl 0 rfl) ?_
  refine va_get (D := D) (ci := 0) (v := .ref (q 1)) (C := R_Log) (T := F_Log) (N := 1) hx hb htw i_Log hown hK hP 0 rfl rfl 0 (by decide) (htw _ tw_69) (fun _ h9 => h9) rfl d_Log_commit_11 ?_
  refine call_Vi (n := 0) (As := []) (ws' := cW k q wk (hmN (lgN wk (fl dt ld 24) lg (cnt dt 24)) (fl dt ld 24) hm (cnt dt 24)) (lgN wk (fl dt ld 24) lg (cnt dt 24)) (dcl (fl dt ld 24) dt (cnt dt 24)) (fl dt ld 24) (cnt dt 24) false true 0 sh) ⟨hx, hb, hml, hown, htw⟩ (c_Disk_commit_C l D k q wk hm lg dt ld ct mk true sh) (in_V tw_100 tw_101 tw_102 tw_10 tw_103) (by decide +kernel) ⟨rfl, rfl, Nat.le_of_ble_eq_true rfl, Nat.le_of_ble_eq_true rfl⟩ hK hN hP hD hS hA [1, 2, 3, 4, 5, 6] [0] [0, 1, 2, 3, 4, 5, 6] rfl rfl ([oL q]) rfl rfl (by decide) rfl rfl 1 rfl 1 rfl hl.1 rfl rfl (Nat.le_of_ble_eq_true rfl) d_Log_commit_14 ⟨Nat.zero_le _, Nat.zero_le _⟩ (fun H locs hP hD hS => ?_)
  refine my_ifeq (tgt := 24) hx hb d_Log_commit_17 (by decide) (fun c => absurd c (by decide)) (fun _ => ?_)
  refine lv_iconst (v := (nI 1)) hx hb d_Log_commit_20 (by decide) ?_
  refine lv_goto (tgt := 25) hx hb d_Log_commit_21 (by decide) ?_
  refine lv_as (y := (bI true)) rfl ?_
  exact ret_z hx hb hr hlocks hK hP hD hS (v := true) rfl d_Log_commit_25
set_option maxHeartbeats 4000000 in
set_option maxRecDepth 100000 in
theorem c_Log_commit_E (l : Launch) (D : va_G) (k : Nat → ClassId) (q : Nat → Nat) (wk hm lg : Nat → Int8) (dt : Nat → Bool) (ld : Nat → Nat) (ct : Nat) (mk : Bool) (un sh : Nat) (hun : 2 ≤ un) (hu2 : un ≤ 1000) : Ci l D (tyK k) y_Log_commit k_Log_commit ({ frames := 4, cells := 0, slots := 0, locals := 86 }) [.ref (q 0)] (cW k q wk hm lg dt ld ct mk true un sh) (bI true) (cW k q wk (hmN (lgN wk (fl dt ld 24) lg (cnt dt 24)) (fl dt ld 24) hm (cnt dt 24)) (lgN wk (fl dt ld 24) lg (cnt dt 24)) (dcl (fl dt ld 24) dt (cnt dt 24)) (fl dt ld 24) (cnt dt 24) false true (un - 1) sh) := by
  refine open_i (by decide) (Nat.le_of_ble_eq_true rfl) ?_
  intro pg ev s m below meth c A hx hb hml hr hlocks htw hown hnm hA hS hP hK hD hN ls hl
  have hown : s.vm.findClass R_Log = some m.cls := hown
  have hl : lv_has ls 1 [(0, .ref (q 0))] := hl
  refine lv_aload_n hx hb d_Log_commit_0 rfl (lv_at hl 0 rfl) ?_
  refine va_get (D := D) (ci := 0) (v := .ref (q 1)) (C := R_Log) (T := F_Log) (N := 1) hx hb htw i_Log hown hK hP 0 rfl rfl 0 (by decide) (htw _ tw_69) (fun _ h9 => h9) rfl d_Log_commit_1 ?_
  refine va_getN (D := D) (ci := 1) (v := .int (bI true)) (C := R_Disk) (T := F_Disk) (N := 10) hx hb htw i_Disk hown hK hP 1 rfl rfl 7 (by decide) (NW.w16 hN) (fun _ h9 => h9) rfl d_Log_commit_4 ?_
  refine my_ifeq (tgt := 24) hx hb d_Log_commit_7 (by decide) (fun c => absurd c (by decide)) (fun _ => ?_)
  refine lv_aload_n hx hb d_Log_commit_10 rfl (lv_at hl 0 rfl) ?_
  refine va_get (D := D) (ci := 0) (v := .ref (q 1)) (C := R_Log) (T := F_Log) (N := 1) hx hb htw i_Log hown hK hP 0 rfl rfl 0 (by decide) (htw _ tw_69) (fun _ h9 => h9) rfl d_Log_commit_11 ?_
  refine call_Vi (n := 0) (As := []) (ws' := cW k q wk (hmN (lgN wk (fl dt ld 24) lg (cnt dt 24)) (fl dt ld 24) hm (cnt dt 24)) (lgN wk (fl dt ld 24) lg (cnt dt 24)) (dcl (fl dt ld 24) dt (cnt dt 24)) (fl dt ld 24) (cnt dt 24) false true (un - 1) sh) ⟨hx, hb, hml, hown, htw⟩ (c_Disk_commit_E l D k q wk hm lg dt ld ct mk true un sh hun hu2) (in_V tw_100 tw_101 tw_102 tw_10 tw_103) (by decide +kernel) ⟨rfl, rfl, Nat.le_of_ble_eq_true rfl, Nat.le_of_ble_eq_true rfl⟩ hK hN hP hD hS hA [1, 2, 3, 4, 5, 6] [0] [0, 1, 2, 3, 4, 5, 6] rfl rfl ([oL q]) rfl rfl (by decide) rfl rfl 1 rfl 1 rfl hl.1 rfl rfl (Nat.le_of_ble_eq_true rfl) d_Log_commit_14 ⟨Nat.zero_le _, Nat.zero_le _⟩ (fun H locs hP hD hS => ?_)
  refine my_ifeq (tgt := 24) hx hb d_Log_commit_17 (by decide) (fun c => absurd c (by decide)) (fun _ => ?_)
  refine lv_iconst (v := (nI 1)) hx hb d_Log_commit_20 (by decide) ?_
  refine lv_goto (tgt := 25) hx hb d_Log_commit_21 (by decide) ?_
  refine lv_as (y := (bI true)) rfl ?_
  exact ret_z hx hb hr hlocks hK hP hD hS (v := true) rfl d_Log_commit_25
set_option maxHeartbeats 4000000 in
set_option maxRecDepth 100000 in
theorem c_Log_revert_off (l : Launch) (D : va_G) (k : Nat → ClassId) (q : Nat → Nat) (wk hm lg : Nat → Int8) (dt : Nat → Bool) (ld : Nat → Nat) (ct : Nat) (mk : Bool) (un sh : Nat) : Ci l D (tyK k) y_Log_revert k_Log_revert ({ frames := 3, cells := 0, slots := 0, locals := 62 }) [.ref (q 0)] (cW k q wk hm lg dt ld ct mk false un sh) (bI false) (cW k q wk hm lg dt ld ct mk false un sh) := by
  refine open_i (by decide) (Nat.le_of_ble_eq_true rfl) ?_
  intro pg ev s m below meth c A hx hb hml hr hlocks htw hown hnm hA hS hP hK hD hN ls hl
  have hown : s.vm.findClass R_Log = some m.cls := hown
  have hl : lv_has ls 1 [(0, .ref (q 0))] := hl
  refine lv_aload_n hx hb d_Log_revert_0 rfl (lv_at hl 0 rfl) ?_
  refine va_get (D := D) (ci := 0) (v := .ref (q 1)) (C := R_Log) (T := F_Log) (N := 1) hx hb htw i_Log hown hK hP 0 rfl rfl 0 (by decide) (htw _ tw_69) (fun _ h9 => h9) rfl d_Log_revert_1 ?_
  refine va_getN (D := D) (ci := 1) (v := .int (bI false)) (C := R_Disk) (T := F_Disk) (N := 10) hx hb htw i_Disk hown hK hP 1 rfl rfl 7 (by decide) (NW.w16 hN) (fun _ h9 => h9) rfl d_Log_revert_4 ?_
  refine my_ifne (tgt := 12) hx hb d_Log_revert_7 (by decide) (fun c => absurd c (by decide)) (fun _ => ?_)
  refine lv_iconst (v := (nI 0)) hx hb d_Log_revert_10 (by decide) ?_
  refine lv_as (y := (bI false)) rfl ?_
  exact ret_z hx hb hr hlocks hK hP hD hS (v := false) rfl d_Log_revert_11
set_option maxHeartbeats 4000000 in
set_option maxRecDepth 100000 in
theorem c_Log_revert_on (l : Launch) (D : va_G) (k : Nat → ClassId) (q : Nat → Nat) (wk hm lg : Nat → Int8) (dt : Nat → Bool) (ld : Nat → Nat) (ct : Nat) (mk : Bool) (un sh : Nat) : Ci l D (tyK k) y_Log_revert k_Log_revert ({ frames := 3, cells := 0, slots := 0, locals := 62 }) [.ref (q 0)] (cW k q wk hm lg dt ld ct mk true un sh) (bI true) (cW k q (cpD 24 dt hm wk) hm lg (clr 24 dt) ld ct mk true un sh) := by
  refine open_i (by decide) (Nat.le_of_ble_eq_true rfl) ?_
  intro pg ev s m below meth c A hx hb hml hr hlocks htw hown hnm hA hS hP hK hD hN ls hl
  have hown : s.vm.findClass R_Log = some m.cls := hown
  have hl : lv_has ls 1 [(0, .ref (q 0))] := hl
  refine lv_aload_n hx hb d_Log_revert_0 rfl (lv_at hl 0 rfl) ?_
  refine va_get (D := D) (ci := 0) (v := .ref (q 1)) (C := R_Log) (T := F_Log) (N := 1) hx hb htw i_Log hown hK hP 0 rfl rfl 0 (by decide) (htw _ tw_69) (fun _ h9 => h9) rfl d_Log_revert_1 ?_
  refine va_getN (D := D) (ci := 1) (v := .int (bI true)) (C := R_Disk) (T := F_Disk) (N := 10) hx hb htw i_Disk hown hK hP 1 rfl rfl 7 (by decide) (NW.w16 hN) (fun _ h9 => h9) rfl d_Log_revert_4 ?_
  refine my_ifne (tgt := 12) hx hb d_Log_revert_7 (by decide) (fun _ => ?_) (fun c => absurd c (by decide))
  refine lv_aload_n hx hb d_Log_revert_12 rfl (lv_at hl 0 rfl) ?_
  refine va_get (D := D) (ci := 0) (v := .ref (q 1)) (C := R_Log) (T := F_Log) (N := 1) hx hb htw i_Log hown hK hP 0 rfl rfl 0 (by decide) (htw _ tw_69) (fun _ h9 => h9) rfl d_Log_revert_13 ?_
  refine call_Vv (n := 0) (As := []) (ws' := cW k q (cpD 24 dt hm wk) hm lg (clr 24 dt) ld ct mk true un sh) ⟨hx, hb, hml, hown, htw⟩ (c_Disk_revert l D k q wk hm lg dt ld ct mk true un sh) (in_V tw_126 tw_127 tw_128 tw_10 tw_129) (by decide +kernel) ⟨rfl, rfl, Nat.le_of_ble_eq_true rfl, Nat.le_of_ble_eq_true rfl⟩ hK hN hP hD hS hA [1, 2, 3, 4, 5, 6] [0] [0, 1, 2, 3, 4, 5, 6] rfl rfl ([oL q]) rfl rfl (by decide) rfl rfl 1 rfl 1 rfl hl.1 rfl rfl (Nat.le_of_ble_eq_true rfl) d_Log_revert_16 ⟨Nat.zero_le _, Nat.zero_le _⟩ (fun H locs hP hD hS => ?_)
  refine lv_iconst (v := (nI 1)) hx hb d_Log_revert_19 (by decide) ?_
  refine lv_as (y := (bI true)) rfl ?_
  exact ret_z hx hb hr hlocks hK hP hD hS (v := true) rfl d_Log_revert_20
set_option maxHeartbeats 4000000 in
set_option maxRecDepth 100000 in
theorem c_Log_cut_off (l : Launch) (D : va_G) (k : Nat → ClassId) (q : Nat → Nat) (wk hm lg : Nat → Int8) (dt : Nat → Bool) (ld : Nat → Nat) (ct : Nat) (mk : Bool) (un sh : Nat) (n a : Int32) : Ci l D (tyK k) y_Log_cut k_Log_cut ({ frames := 0, cells := 0, slots := 0, locals := 0 }) [.ref (q 0), .int n, .int a] (cW k q wk hm lg dt ld ct mk false un sh) (bI false) (cW k q wk hm lg dt ld ct mk false un sh) := by
  refine open_i (by decide) (Nat.le_of_ble_eq_true rfl) ?_
  intro pg ev s m below meth c A hx hb hml hr hlocks htw hown hnm hA hS hP hK hD hN ls hl
  have hown : s.vm.findClass R_Log = some m.cls := hown
  have hl : lv_has ls 3 [(0, .ref (q 0)), (1, .int n), (2, .int a)] := hl
  refine lv_aload_n hx hb d_Log_cut_0 rfl (lv_at hl 0 rfl) ?_
  refine va_get (D := D) (ci := 0) (v := .ref (q 1)) (C := R_Log) (T := F_Log) (N := 1) hx hb htw i_Log hown hK hP 0 rfl rfl 0 (by decide) (htw _ tw_69) (fun _ h9 => h9) rfl d_Log_cut_1 ?_
  refine va_getN (D := D) (ci := 1) (v := .int (bI false)) (C := R_Disk) (T := F_Disk) (N := 10) hx hb htw i_Disk hown hK hP 1 rfl rfl 7 (by decide) (NW.w16 hN) (fun _ h9 => h9) rfl d_Log_cut_4 ?_
  refine my_ifeq (tgt := 33) hx hb d_Log_cut_7 (by decide) (fun _ => ?_) (fun c => absurd c (by decide))
  refine lv_iconst (v := (nI 0)) hx hb d_Log_cut_33 (by decide) ?_
  refine lv_as (y := (bI false)) rfl ?_
  exact ret_z hx hb hr hlocks hK hP hD hS (v := false) rfl d_Log_cut_34
set_option maxHeartbeats 4000000 in
set_option maxRecDepth 100000 in
theorem c_Log_cut_n (l : Launch) (D : va_G) (k : Nat → ClassId) (q : Nat → Nat) (wk hm lg : Nat → Int8) (dt : Nat → Bool) (ld : Nat → Nat) (ct : Nat) (mk : Bool) (un sh : Nat) (n a : Int32) (hno : ¬ cutP n a) : Ci l D (tyK k) y_Log_cut k_Log_cut ({ frames := 0, cells := 0, slots := 0, locals := 0 }) [.ref (q 0), .int n, .int a] (cW k q wk hm lg dt ld ct mk true un sh) (bI false) (cW k q wk hm lg dt ld ct mk true un sh) := by
  refine open_i (by decide) (Nat.le_of_ble_eq_true rfl) ?_
  intro pg ev s m below meth c A hx hb hml hr hlocks htw hown hnm hA hS hP hK hD hN ls hl
  have hown : s.vm.findClass R_Log = some m.cls := hown
  have hl : lv_has ls 3 [(0, .ref (q 0)), (1, .int n), (2, .int a)] := hl
  refine lv_aload_n hx hb d_Log_cut_0 rfl (lv_at hl 0 rfl) ?_
  refine va_get (D := D) (ci := 0) (v := .ref (q 1)) (C := R_Log) (T := F_Log) (N := 1) hx hb htw i_Log hown hK hP 0 rfl rfl 0 (by decide) (htw _ tw_69) (fun _ h9 => h9) rfl d_Log_cut_1 ?_
  refine va_getN (D := D) (ci := 1) (v := .int (bI true)) (C := R_Disk) (T := F_Disk) (N := 10) hx hb htw i_Disk hown hK hP 1 rfl rfl 7 (by decide) (NW.w16 hN) (fun _ h9 => h9) rfl d_Log_cut_4 ?_
  refine my_ifeq (tgt := 33) hx hb d_Log_cut_7 (by decide) (fun c => absurd c (by decide)) (fun _ => ?_)
  refine lv_iload_n hx hb d_Log_cut_10 rfl (lv_at hl 1 rfl) ?_
  refine lv_iconst (v := (nI 1)) hx hb d_Log_cut_11 (by decide) ?_
  refine lv_icmp_lt (tgt := 33) hx hb d_Log_cut_12 (by decide) (fun c_12 => ?_) (fun c_12 => ?_)
  · refine lv_iconst (v := (nI 0)) hx hb d_Log_cut_33 (by decide) ?_
    refine lv_as (y := (bI false)) rfl ?_
    exact ret_z hx hb hr hlocks hK hP hD hS (v := false) rfl d_Log_cut_34
  · refine lv_iload_n hx hb d_Log_cut_15 rfl (lv_at hl 1 rfl) ?_
    refine lv_sipush (v := (nI 1000)) hx hb d_Log_cut_16 (by decide) ?_
    refine lv_icmp_gt (tgt := 33) hx hb d_Log_cut_19 (by decide) (fun c_19 => ?_) (fun c_19 => ?_)
    · refine lv_iconst (v := (nI 0)) hx hb d_Log_cut_33 (by decide) ?_
      refine lv_as (y := (bI false)) rfl ?_
      exact ret_z hx hb hr hlocks hK hP hD hS (v := false) rfl d_Log_cut_34
    · refine lv_iload_n hx hb d_Log_cut_22 rfl (lv_at hl 2 rfl) ?_
      refine lv_if_lt (tgt := 33) hx hb d_Log_cut_23 (by decide) (fun c_23 => ?_) (fun c_23 => ?_)
      · refine lv_iconst (v := (nI 0)) hx hb d_Log_cut_33 (by decide) ?_
        refine lv_as (y := (bI false)) rfl ?_
        exact ret_z hx hb hr hlocks hK hP hD hS (v := false) rfl d_Log_cut_34
      · refine lv_iload_n hx hb d_Log_cut_26 rfl (lv_at hl 2 rfl) ?_
        refine lv_sipush (v := (nI 1000)) hx hb d_Log_cut_27 (by decide) ?_
        refine lv_icmp_lt (tgt := 35) hx hb d_Log_cut_30 (by decide) (fun c_30 => ?_) (fun c_30 => ?_)
        · exact absurd (cutP_of c_12 c_19 c_23 c_30) hno
        · refine lv_iconst (v := (nI 0)) hx hb d_Log_cut_33 (by decide) ?_
          refine lv_as (y := (bI false)) rfl ?_
          exact ret_z hx hb hr hlocks hK hP hD hS (v := false) rfl d_Log_cut_34
set_option maxHeartbeats 4000000 in
set_option maxRecDepth 100000 in
theorem c_Log_cut_y (l : Launch) (D : va_G) (k : Nat → ClassId) (q : Nat → Nat) (wk hm lg : Nat → Int8) (dt : Nat → Bool) (ld : Nat → Nat) (ct : Nat) (mk : Bool) (un sh : Nat) (n a : Nat) (h1 : 1 ≤ n) (h2 : n ≤ 1000) (h3 : a < 1000) : Ci l D (tyK k) y_Log_cut k_Log_cut ({ frames := 0, cells := 0, slots := 0, locals := 0 }) [.ref (q 0), .int (nI n), .int (nI a)] (cW k q wk hm lg dt ld ct mk true un sh) (bI true) (cW k q wk hm lg dt ld ct mk true n a) := by
  refine open_i (by decide) (Nat.le_of_ble_eq_true rfl) ?_
  intro pg ev s m below meth c A hx hb hml hr hlocks htw hown hnm hA hS hP hK hD hN ls hl
  have hown : s.vm.findClass R_Log = some m.cls := hown
  have hl : lv_has ls 3 [(0, .ref (q 0)), (1, .int (nI n)), (2, .int (nI a))] := hl
  refine lv_aload_n hx hb d_Log_cut_0 rfl (lv_at hl 0 rfl) ?_
  refine va_get (D := D) (ci := 0) (v := .ref (q 1)) (C := R_Log) (T := F_Log) (N := 1) hx hb htw i_Log hown hK hP 0 rfl rfl 0 (by decide) (htw _ tw_69) (fun _ h9 => h9) rfl d_Log_cut_1 ?_
  refine va_getN (D := D) (ci := 1) (v := .int (bI true)) (C := R_Disk) (T := F_Disk) (N := 10) hx hb htw i_Disk hown hK hP 1 rfl rfl 7 (by decide) (NW.w16 hN) (fun _ h9 => h9) rfl d_Log_cut_4 ?_
  refine my_ifeq (tgt := 33) hx hb d_Log_cut_7 (by decide) (fun c => absurd c (by decide)) (fun _ => ?_)
  refine lv_iload_n hx hb d_Log_cut_10 rfl (lv_at hl 1 rfl) ?_
  refine lv_iconst (v := (nI 1)) hx hb d_Log_cut_11 (by decide) ?_
  refine lv_icmp_lt (tgt := 33) hx hb d_Log_cut_12 (by decide) (fun c_12 => absurd c_12 (nI_nlt h1 (by omega))) (fun c_12 => ?_)
  refine lv_iload_n hx hb d_Log_cut_15 rfl (lv_at hl 1 rfl) ?_
  refine lv_sipush (v := (nI 1000)) hx hb d_Log_cut_16 (by decide) ?_
  refine lv_icmp_gt (tgt := 33) hx hb d_Log_cut_19 (by decide) (fun c_19 => absurd c_19 (nI_nlt h2 (by omega))) (fun c_19 => ?_)
  refine lv_iload_n hx hb d_Log_cut_22 rfl (lv_at hl 2 rfl) ?_
  refine lv_if_lt (tgt := 33) hx hb d_Log_cut_23 (by decide) (fun c_23 => absurd c_23 (nI_pos (by omega))) (fun c_23 => ?_)
  refine lv_iload_n hx hb d_Log_cut_26 rfl (lv_at hl 2 rfl) ?_
  refine lv_sipush (v := (nI 1000)) hx hb d_Log_cut_27 (by decide) ?_
  refine lv_icmp_lt (tgt := 35) hx hb d_Log_cut_30 (by decide) (fun c_30 => ?_) (fun c_30 => absurd (nI_lt h3 (by decide)) c_30)
  refine lv_aload_n hx hb d_Log_cut_35 rfl (lv_at hl 0 rfl) ?_
  refine va_get (D := D) (ci := 0) (v := .ref (q 1)) (C := R_Log) (T := F_Log) (N := 1) hx hb htw i_Log hown hK hP 0 rfl rfl 0 (by decide) (htw _ tw_69) (fun _ h9 => h9) rfl d_Log_cut_36 ?_
  refine lv_iload_n hx hb d_Log_cut_39 rfl (lv_at hl 1 rfl) ?_
  refine va_putN (D := D) (ci := 1) (v := .int (nI n)) (ty := .int) (C := R_Disk) (T := F_Disk) (N := 10) hx hb htw i_Disk t_Disk t_Disk_ok n_Disk hown hK hP hD hS 1 rfl rfl 8 (by decide) (NW.w46 hN) (fun _ h9 => h9) rfl (by decide +kernel) rfl rfl (Nat.le_of_ble_eq_true rfl) d_Log_cut_40 (fun H locs hP hD hS => ?_)
  have hP : va_P D classes (cW k q wk hm lg dt ld ct mk true n sh) H := hP
  have hD : va_D A (cW k q wk hm lg dt ld ct mk true n sh) := hD
  refine lv_aload_n hx hb d_Log_cut_43 rfl (lv_at hl 0 rfl) ?_
  refine va_get (D := D) (ci := 0) (v := .ref (q 1)) (C := R_Log) (T := F_Log) (N := 1) hx hb htw i_Log hown hK hP 0 rfl rfl 0 (by decide) (htw _ tw_69) (fun _ h9 => h9) rfl d_Log_cut_44 ?_
  refine lv_iload_n hx hb d_Log_cut_47 rfl (lv_at hl 2 rfl) ?_
  refine va_putN (D := D) (ci := 1) (v := .int (nI a)) (ty := .int) (C := R_Disk) (T := F_Disk) (N := 10) hx hb htw i_Disk t_Disk t_Disk_ok n_Disk hown hK hP hD hS 1 rfl rfl 9 (by decide) (NW.w50 hN) (fun _ h9 => h9) rfl (by decide +kernel) rfl rfl (Nat.le_of_ble_eq_true rfl) d_Log_cut_48 (fun H locs hP hD hS => ?_)
  have hP : va_P D classes (cW k q wk hm lg dt ld ct mk true n a) H := hP
  have hD : va_D A (cW k q wk hm lg dt ld ct mk true n a) := hD
  refine lv_iconst (v := (nI 1)) hx hb d_Log_cut_51 (by decide) ?_
  refine lv_as (y := (bI true)) rfl ?_
  exact ret_z hx hb hr hlocks hK hP hD hS (v := true) rfl d_Log_cut_52
set_option maxHeartbeats 4000000 in
set_option maxRecDepth 100000 in
theorem c_Log_start_on (l : Launch) (D : va_G) (k : Nat → ClassId) (q : Nat → Nat) (wk hm lg : Nat → Int8) (dt : Nat → Bool) (ld : Nat → Nat) (ct : Nat) (mk : Bool) (un sh : Nat) (a : Int32) : Ci l D (tyK k) y_Log_start k_Log_start ({ frames := 4, cells := 0, slots := 0, locals := 86 }) [.ref (q 0), .int a] (cW k q wk hm lg dt ld ct mk true un sh) (bI false) (cW k q wk hm lg dt ld ct mk true un sh) := by
  refine open_i (by decide) (Nat.le_of_ble_eq_true rfl) ?_
  intro pg ev s m below meth c A hx hb hml hr hlocks htw hown hnm hA hS hP hK hD hN ls hl
  have hown : s.vm.findClass R_Log = some m.cls := hown
  have hl : lv_has ls 2 [(0, .ref (q 0)), (1, .int a)] := hl
  refine lv_aload_n hx hb d_Log_start_0 rfl (lv_at hl 0 rfl) ?_
  refine va_get (D := D) (ci := 0) (v := .ref (q 1)) (C := R_Log) (T := F_Log) (N := 1) hx hb htw i_Log hown hK hP 0 rfl rfl 0 (by decide) (htw _ tw_69) (fun _ h9 => h9) rfl d_Log_start_1 ?_
  refine va_getN (D := D) (ci := 1) (v := .int (bI true)) (C := R_Disk) (T := F_Disk) (N := 10) hx hb htw i_Disk hown hK hP 1 rfl rfl 7 (by decide) (NW.w16 hN) (fun _ h9 => h9) rfl d_Log_start_4 ?_
  refine my_ifne (tgt := 21) hx hb d_Log_start_7 (by decide) (fun _ => ?_) (fun c => absurd c (by decide))
  refine lv_iconst (v := (nI 0)) hx hb d_Log_start_21 (by decide) ?_
  refine lv_as (y := (bI false)) rfl ?_
  exact ret_z hx hb hr hlocks hK hP hD hS (v := false) rfl d_Log_start_22
set_option maxHeartbeats 4000000 in
set_option maxRecDepth 100000 in
theorem c_Log_start_n (l : Launch) (D : va_G) (k : Nat → ClassId) (q : Nat → Nat) (wk hm lg : Nat → Int8) (dt : Nat → Bool) (ld : Nat → Nat) (ct : Nat) (mk : Bool) (un sh : Nat) (a : Int32) (hno : ¬ stP a) : Ci l D (tyK k) y_Log_start k_Log_start ({ frames := 4, cells := 0, slots := 0, locals := 86 }) [.ref (q 0), .int a] (cW k q wk hm lg dt ld ct mk false un sh) (bI false) (cW k q wk hm lg dt ld ct mk false un sh) := by
  refine open_i (by decide) (Nat.le_of_ble_eq_true rfl) ?_
  intro pg ev s m below meth c A hx hb hml hr hlocks htw hown hnm hA hS hP hK hD hN ls hl
  have hown : s.vm.findClass R_Log = some m.cls := hown
  have hl : lv_has ls 2 [(0, .ref (q 0)), (1, .int a)] := hl
  refine lv_aload_n hx hb d_Log_start_0 rfl (lv_at hl 0 rfl) ?_
  refine va_get (D := D) (ci := 0) (v := .ref (q 1)) (C := R_Log) (T := F_Log) (N := 1) hx hb htw i_Log hown hK hP 0 rfl rfl 0 (by decide) (htw _ tw_69) (fun _ h9 => h9) rfl d_Log_start_1 ?_
  refine va_getN (D := D) (ci := 1) (v := .int (bI false)) (C := R_Disk) (T := F_Disk) (N := 10) hx hb htw i_Disk hown hK hP 1 rfl rfl 7 (by decide) (NW.w16 hN) (fun _ h9 => h9) rfl d_Log_start_4 ?_
  refine my_ifne (tgt := 21) hx hb d_Log_start_7 (by decide) (fun c => absurd c (by decide)) (fun _ => ?_)
  refine lv_iload_n hx hb d_Log_start_10 rfl (lv_at hl 1 rfl) ?_
  refine lv_if_lt (tgt := 21) hx hb d_Log_start_11 (by decide) (fun c_11 => ?_) (fun c_11 => ?_)
  · refine lv_iconst (v := (nI 0)) hx hb d_Log_start_21 (by decide) ?_
    refine lv_as (y := (bI false)) rfl ?_
    exact ret_z hx hb hr hlocks hK hP hD hS (v := false) rfl d_Log_start_22
  · refine lv_iload_n hx hb d_Log_start_14 rfl (lv_at hl 1 rfl) ?_
    refine lv_sipush (v := (nI 1000)) hx hb d_Log_start_15 (by decide) ?_
    refine lv_icmp_le (tgt := 23) hx hb d_Log_start_18 (by decide) (fun c_18 => ?_) (fun c_18 => ?_)
    · exact absurd (stP_of c_11 c_18) hno
    · refine lv_iconst (v := (nI 0)) hx hb d_Log_start_21 (by decide) ?_
      refine lv_as (y := (bI false)) rfl ?_
      exact ret_z hx hb hr hlocks hK hP hD hS (v := false) rfl d_Log_start_22
set_option maxHeartbeats 4000000 in
set_option maxRecDepth 100000 in
theorem c_Log_start_p0 (l : Launch) (D : va_G) (k : Nat → ClassId) (q : Nat → Nat) (wk hm lg : Nat → Int8) (dt : Nat → Bool) (ld : Nat → Nat) (ct : Nat) (un sh : Nat) (pt : Nat) (hct : ct ≤ 24) (hld : ∀ j, j < ct → ld j < 24) (hpt : pt < 1000) : Ci l D (tyK k) y_Log_start k_Log_start ({ frames := 4, cells := 0, slots := 0, locals := 86 }) [.ref (q 0), .int (nI pt)] (cW k q wk hm lg dt ld ct false false un sh) (bI false) (cW k q wk (hmN lg ld hm 0) lg dt ld ct false false un sh) := by
  refine open_i (by decide) (Nat.le_of_ble_eq_true rfl) ?_
  intro pg ev s m below meth c A hx hb hml hr hlocks htw hown hnm hA hS hP hK hD hN ls hl
  have hown : s.vm.findClass R_Log = some m.cls := hown
  have hl : lv_has ls 2 [(0, .ref (q 0)), (1, .int (nI pt))] := hl
  refine lv_aload_n hx hb d_Log_start_0 rfl (lv_at hl 0 rfl) ?_
  refine va_get (D := D) (ci := 0) (v := .ref (q 1)) (C := R_Log) (T := F_Log) (N := 1) hx hb htw i_Log hown hK hP 0 rfl rfl 0 (by decide) (htw _ tw_69) (fun _ h9 => h9) rfl d_Log_start_1 ?_
  refine va_getN (D := D) (ci := 1) (v := .int (bI false)) (C := R_Disk) (T := F_Disk) (N := 10) hx hb htw i_Disk hown hK hP 1 rfl rfl 7 (by decide) (NW.w16 hN) (fun _ h9 => h9) rfl d_Log_start_4 ?_
  refine my_ifne (tgt := 21) hx hb d_Log_start_7 (by decide) (fun c => absurd c (by decide)) (fun _ => ?_)
  refine lv_iload_n hx hb d_Log_start_10 rfl (lv_at hl 1 rfl) ?_
  refine lv_if_lt (tgt := 21) hx hb d_Log_start_11 (by decide) (fun c_11 => absurd c_11 (nI_pos (by omega))) (fun c_11 => ?_)
  refine lv_iload_n hx hb d_Log_start_14 rfl (lv_at hl 1 rfl) ?_
  refine lv_sipush (v := (nI 1000)) hx hb d_Log_start_15 (by decide) ?_
  refine lv_icmp_le (tgt := 23) hx hb d_Log_start_18 (by decide) (fun c_18 => ?_) (fun c_18 => absurd (nI_le (show pt ≤ 1000 by omega) (by decide)) c_18)
  refine lv_aload_n hx hb d_Log_start_23 rfl (lv_at hl 0 rfl) ?_
  refine va_get (D := D) (ci := 0) (v := .ref (q 1)) (C := R_Log) (T := F_Log) (N := 1) hx hb htw i_Log hown hK hP 0 rfl rfl 0 (by decide) (htw _ tw_69) (fun _ h9 => h9) rfl d_Log_start_24 ?_
  refine lv_iload_n hx hb d_Log_start_27 rfl (lv_at hl 1 rfl) ?_
  refine call_Vi (n := 1) (As := [.int (nI pt)]) (ws' := cW k q wk (hmN lg ld hm 0) lg dt ld ct false false un sh) ⟨hx, hb, hml, hown, htw⟩ (c_Disk_start_p0 l D k q wk hm lg dt ld ct false un sh pt hct hld hpt) (in_V tw_138 tw_139 tw_140 tw_10 tw_141) (by decide +kernel) ⟨rfl, rfl, Nat.le_of_ble_eq_true rfl, Nat.le_of_ble_eq_true rfl⟩ hK hN hP hD hS hA [1, 2, 3, 4, 5, 6] [0] [0, 1, 2, 3, 4, 5, 6] rfl rfl ([oL q]) rfl rfl (by decide) rfl rfl 1 rfl 1 rfl hl.1 rfl rfl (Nat.le_of_ble_eq_true rfl) d_Log_start_28 ⟨Nat.zero_le _, Nat.zero_le _⟩ (fun H locs hP hD hS => ?_)
  exact ret_z hx hb hr hlocks hK hP hD hS (v := false) rfl d_Log_start_31
set_option maxHeartbeats 4000000 in
set_option maxRecDepth 100000 in
theorem c_Log_start_w0 (l : Launch) (D : va_G) (k : Nat → ClassId) (q : Nat → Nat) (wk hm lg : Nat → Int8) (dt : Nat → Bool) (ld : Nat → Nat) (ct : Nat) (un sh : Nat) (hct : ct ≤ 24) (hld : ∀ j, j < ct → ld j < 24) : Ci l D (tyK k) y_Log_start k_Log_start ({ frames := 4, cells := 0, slots := 0, locals := 86 }) [.ref (q 0), .int (nI 1000)] (cW k q wk hm lg dt ld ct false false un sh) (bI true) (cW k q (cpA 24 (hmN lg ld hm 0) wk) (hmN lg ld hm 0) lg (clr 24 dt) ld ct false true un sh) := by
  refine open_i (by decide) (Nat.le_of_ble_eq_true rfl) ?_
  intro pg ev s m below meth c A hx hb hml hr hlocks htw hown hnm hA hS hP hK hD hN ls hl
  have hown : s.vm.findClass R_Log = some m.cls := hown
  have hl : lv_has ls 2 [(0, .ref (q 0)), (1, .int (nI 1000))] := hl
  refine lv_aload_n hx hb d_Log_start_0 rfl (lv_at hl 0 rfl) ?_
  refine va_get (D := D) (ci := 0) (v := .ref (q 1)) (C := R_Log) (T := F_Log) (N := 1) hx hb htw i_Log hown hK hP 0 rfl rfl 0 (by decide) (htw _ tw_69) (fun _ h9 => h9) rfl d_Log_start_1 ?_
  refine va_getN (D := D) (ci := 1) (v := .int (bI false)) (C := R_Disk) (T := F_Disk) (N := 10) hx hb htw i_Disk hown hK hP 1 rfl rfl 7 (by decide) (NW.w16 hN) (fun _ h9 => h9) rfl d_Log_start_4 ?_
  refine my_ifne (tgt := 21) hx hb d_Log_start_7 (by decide) (fun c => absurd c (by decide)) (fun _ => ?_)
  refine lv_iload_n hx hb d_Log_start_10 rfl (lv_at hl 1 rfl) ?_
  refine lv_if_lt (tgt := 21) hx hb d_Log_start_11 (by decide) (fun c_11 => absurd c_11 (nI_pos (by omega))) (fun c_11 => ?_)
  refine lv_iload_n hx hb d_Log_start_14 rfl (lv_at hl 1 rfl) ?_
  refine lv_sipush (v := (nI 1000)) hx hb d_Log_start_15 (by decide) ?_
  refine lv_icmp_le (tgt := 23) hx hb d_Log_start_18 (by decide) (fun c_18 => ?_) (fun c_18 => absurd (nI_le (show 1000 ≤ 1000 by omega) (by decide)) c_18)
  refine lv_aload_n hx hb d_Log_start_23 rfl (lv_at hl 0 rfl) ?_
  refine va_get (D := D) (ci := 0) (v := .ref (q 1)) (C := R_Log) (T := F_Log) (N := 1) hx hb htw i_Log hown hK hP 0 rfl rfl 0 (by decide) (htw _ tw_69) (fun _ h9 => h9) rfl d_Log_start_24 ?_
  refine lv_iload_n hx hb d_Log_start_27 rfl (lv_at hl 1 rfl) ?_
  refine call_Vi (n := 1) (As := [.int (nI 1000)]) (ws' := cW k q (cpA 24 (hmN lg ld hm 0) wk) (hmN lg ld hm 0) lg (clr 24 dt) ld ct false true un sh) ⟨hx, hb, hml, hown, htw⟩ (c_Disk_start_w0 l D k q wk hm lg dt ld ct false un sh hct hld) (in_V tw_138 tw_139 tw_140 tw_10 tw_141) (by decide +kernel) ⟨rfl, rfl, Nat.le_of_ble_eq_true rfl, Nat.le_of_ble_eq_true rfl⟩ hK hN hP hD hS hA [1, 2, 3, 4, 5, 6] [0] [0, 1, 2, 3, 4, 5, 6] rfl rfl ([oL q]) rfl rfl (by decide) rfl rfl 1 rfl 1 rfl hl.1 rfl rfl (Nat.le_of_ble_eq_true rfl) d_Log_start_28 ⟨Nat.zero_le _, Nat.zero_le _⟩ (fun H locs hP hD hS => ?_)
  exact ret_z hx hb hr hlocks hK hP hD hS (v := true) rfl d_Log_start_31
set_option maxHeartbeats 4000000 in
set_option maxRecDepth 100000 in
theorem c_Log_start_p1 (l : Launch) (D : va_G) (k : Nat → ClassId) (q : Nat → Nat) (wk hm lg : Nat → Int8) (dt : Nat → Bool) (ld : Nat → Nat) (ct : Nat) (un sh : Nat) (pt : Nat) (hct : ct ≤ 24) (hld : ∀ j, j < ct → ld j < 24) (hpt : pt < 1000) : Ci l D (tyK k) y_Log_start k_Log_start ({ frames := 4, cells := 0, slots := 0, locals := 86 }) [.ref (q 0), .int (nI pt)] (cW k q wk hm lg dt ld ct true false un sh) (bI false) (cW k q wk (hmN lg ld hm ((ct * pt) / 1000)) lg dt ld ct true false un sh) := by
  refine open_i (by decide) (Nat.le_of_ble_eq_true rfl) ?_
  intro pg ev s m below meth c A hx hb hml hr hlocks htw hown hnm hA hS hP hK hD hN ls hl
  have hown : s.vm.findClass R_Log = some m.cls := hown
  have hl : lv_has ls 2 [(0, .ref (q 0)), (1, .int (nI pt))] := hl
  refine lv_aload_n hx hb d_Log_start_0 rfl (lv_at hl 0 rfl) ?_
  refine va_get (D := D) (ci := 0) (v := .ref (q 1)) (C := R_Log) (T := F_Log) (N := 1) hx hb htw i_Log hown hK hP 0 rfl rfl 0 (by decide) (htw _ tw_69) (fun _ h9 => h9) rfl d_Log_start_1 ?_
  refine va_getN (D := D) (ci := 1) (v := .int (bI false)) (C := R_Disk) (T := F_Disk) (N := 10) hx hb htw i_Disk hown hK hP 1 rfl rfl 7 (by decide) (NW.w16 hN) (fun _ h9 => h9) rfl d_Log_start_4 ?_
  refine my_ifne (tgt := 21) hx hb d_Log_start_7 (by decide) (fun c => absurd c (by decide)) (fun _ => ?_)
  refine lv_iload_n hx hb d_Log_start_10 rfl (lv_at hl 1 rfl) ?_
  refine lv_if_lt (tgt := 21) hx hb d_Log_start_11 (by decide) (fun c_11 => absurd c_11 (nI_pos (by omega))) (fun c_11 => ?_)
  refine lv_iload_n hx hb d_Log_start_14 rfl (lv_at hl 1 rfl) ?_
  refine lv_sipush (v := (nI 1000)) hx hb d_Log_start_15 (by decide) ?_
  refine lv_icmp_le (tgt := 23) hx hb d_Log_start_18 (by decide) (fun c_18 => ?_) (fun c_18 => absurd (nI_le (show pt ≤ 1000 by omega) (by decide)) c_18)
  refine lv_aload_n hx hb d_Log_start_23 rfl (lv_at hl 0 rfl) ?_
  refine va_get (D := D) (ci := 0) (v := .ref (q 1)) (C := R_Log) (T := F_Log) (N := 1) hx hb htw i_Log hown hK hP 0 rfl rfl 0 (by decide) (htw _ tw_69) (fun _ h9 => h9) rfl d_Log_start_24 ?_
  refine lv_iload_n hx hb d_Log_start_27 rfl (lv_at hl 1 rfl) ?_
  refine call_Vi (n := 1) (As := [.int (nI pt)]) (ws' := cW k q wk (hmN lg ld hm ((ct * pt) / 1000)) lg dt ld ct true false un sh) ⟨hx, hb, hml, hown, htw⟩ (c_Disk_start_p1 l D k q wk hm lg dt ld ct false un sh pt hct hld hpt) (in_V tw_138 tw_139 tw_140 tw_10 tw_141) (by decide +kernel) ⟨rfl, rfl, Nat.le_of_ble_eq_true rfl, Nat.le_of_ble_eq_true rfl⟩ hK hN hP hD hS hA [1, 2, 3, 4, 5, 6] [0] [0, 1, 2, 3, 4, 5, 6] rfl rfl ([oL q]) rfl rfl (by decide) rfl rfl 1 rfl 1 rfl hl.1 rfl rfl (Nat.le_of_ble_eq_true rfl) d_Log_start_28 ⟨Nat.zero_le _, Nat.zero_le _⟩ (fun H locs hP hD hS => ?_)
  exact ret_z hx hb hr hlocks hK hP hD hS (v := false) rfl d_Log_start_31
set_option maxHeartbeats 4000000 in
set_option maxRecDepth 100000 in
theorem c_Log_start_w1 (l : Launch) (D : va_G) (k : Nat → ClassId) (q : Nat → Nat) (wk hm lg : Nat → Int8) (dt : Nat → Bool) (ld : Nat → Nat) (ct : Nat) (un sh : Nat) (hct : ct ≤ 24) (hld : ∀ j, j < ct → ld j < 24) : Ci l D (tyK k) y_Log_start k_Log_start ({ frames := 4, cells := 0, slots := 0, locals := 86 }) [.ref (q 0), .int (nI 1000)] (cW k q wk hm lg dt ld ct true false un sh) (bI true) (cW k q (cpA 24 (hmN lg ld hm ct) wk) (hmN lg ld hm ct) lg (clr 24 dt) ld ct false true un sh) := by
  refine open_i (by decide) (Nat.le_of_ble_eq_true rfl) ?_
  intro pg ev s m below meth c A hx hb hml hr hlocks htw hown hnm hA hS hP hK hD hN ls hl
  have hown : s.vm.findClass R_Log = some m.cls := hown
  have hl : lv_has ls 2 [(0, .ref (q 0)), (1, .int (nI 1000))] := hl
  refine lv_aload_n hx hb d_Log_start_0 rfl (lv_at hl 0 rfl) ?_
  refine va_get (D := D) (ci := 0) (v := .ref (q 1)) (C := R_Log) (T := F_Log) (N := 1) hx hb htw i_Log hown hK hP 0 rfl rfl 0 (by decide) (htw _ tw_69) (fun _ h9 => h9) rfl d_Log_start_1 ?_
  refine va_getN (D := D) (ci := 1) (v := .int (bI false)) (C := R_Disk) (T := F_Disk) (N := 10) hx hb htw i_Disk hown hK hP 1 rfl rfl 7 (by decide) (NW.w16 hN) (fun _ h9 => h9) rfl d_Log_start_4 ?_
  refine my_ifne (tgt := 21) hx hb d_Log_start_7 (by decide) (fun c => absurd c (by decide)) (fun _ => ?_)
  refine lv_iload_n hx hb d_Log_start_10 rfl (lv_at hl 1 rfl) ?_
  refine lv_if_lt (tgt := 21) hx hb d_Log_start_11 (by decide) (fun c_11 => absurd c_11 (nI_pos (by omega))) (fun c_11 => ?_)
  refine lv_iload_n hx hb d_Log_start_14 rfl (lv_at hl 1 rfl) ?_
  refine lv_sipush (v := (nI 1000)) hx hb d_Log_start_15 (by decide) ?_
  refine lv_icmp_le (tgt := 23) hx hb d_Log_start_18 (by decide) (fun c_18 => ?_) (fun c_18 => absurd (nI_le (show 1000 ≤ 1000 by omega) (by decide)) c_18)
  refine lv_aload_n hx hb d_Log_start_23 rfl (lv_at hl 0 rfl) ?_
  refine va_get (D := D) (ci := 0) (v := .ref (q 1)) (C := R_Log) (T := F_Log) (N := 1) hx hb htw i_Log hown hK hP 0 rfl rfl 0 (by decide) (htw _ tw_69) (fun _ h9 => h9) rfl d_Log_start_24 ?_
  refine lv_iload_n hx hb d_Log_start_27 rfl (lv_at hl 1 rfl) ?_
  refine call_Vi (n := 1) (As := [.int (nI 1000)]) (ws' := cW k q (cpA 24 (hmN lg ld hm ct) wk) (hmN lg ld hm ct) lg (clr 24 dt) ld ct false true un sh) ⟨hx, hb, hml, hown, htw⟩ (c_Disk_start_w1 l D k q wk hm lg dt ld ct false un sh hct hld) (in_V tw_138 tw_139 tw_140 tw_10 tw_141) (by decide +kernel) ⟨rfl, rfl, Nat.le_of_ble_eq_true rfl, Nat.le_of_ble_eq_true rfl⟩ hK hN hP hD hS hA [1, 2, 3, 4, 5, 6] [0] [0, 1, 2, 3, 4, 5, 6] rfl rfl ([oL q]) rfl rfl (by decide) rfl rfl 1 rfl 1 rfl hl.1 rfl rfl (Nat.le_of_ble_eq_true rfl) d_Log_start_28 ⟨Nat.zero_le _, Nat.zero_le _⟩ (fun H locs hP hD hS => ?_)
  exact ret_z hx hb hr hlocks hK hP hD hS (v := true) rfl d_Log_start_31
set_option maxHeartbeats 4000000 in
set_option maxRecDepth 100000 in
theorem c_Log_state_0 (l : Launch) (D : va_G) (k : Nat → ClassId) (q : Nat → Nat) (wk hm lg : Nat → Int8) (dt : Nat → Bool) (ld : Nat → Nat) (ct : Nat) (mk on : Bool) (un sh : Nat) : Ci l D (tyK k) y_Log_state k_Log_state ({ frames := 0, cells := 0, slots := 0, locals := 0 }) [.ref (q 0), .int (nI 0)] (cW k q wk hm lg dt ld ct mk on un sh) (bI on) (cW k q wk hm lg dt ld ct mk on un sh) := by
  refine open_i (by decide) (Nat.le_of_ble_eq_true rfl) ?_
  intro pg ev s m below meth c A hx hb hml hr hlocks htw hown hnm hA hS hP hK hD hN ls hl
  have hown : s.vm.findClass R_Log = some m.cls := hown
  have hl : lv_has ls 2 [(0, .ref (q 0)), (1, .int (nI 0))] := hl
  refine lv_iload_n hx hb d_Log_state_0 rfl (lv_at hl 1 rfl) ?_
  refine lv_as (y := (bI false)) rfl ?_
  refine my_ifne (tgt := 22) hx hb d_Log_state_1 (by decide) (fun c => absurd c (by decide)) (fun _ => ?_)
  refine lv_aload_n hx hb d_Log_state_4 rfl (lv_at hl 0 rfl) ?_
  refine va_get (D := D) (ci := 0) (v := .ref (q 1)) (C := R_Log) (T := F_Log) (N := 1) hx hb htw i_Log hown hK hP 0 rfl rfl 0 (by decide) (htw _ tw_69) (fun _ h9 => h9) rfl d_Log_state_5 ?_
  refine va_getN (D := D) (ci := 1) (v := .int (bI on)) (C := R_Disk) (T := F_Disk) (N := 10) hx hb htw i_Disk hown hK hP 1 rfl rfl 7 (by decide) (NW.w16 hN) (fun _ h9 => h9) rfl d_Log_state_8 ?_
  refine my_ifeq (tgt := 18) hx hb d_Log_state_11 (by decide) (fun c_11 => ?_) (fun c_11 => ?_)
  · refine lv_iconst (v := (nI 0)) hx hb d_Log_state_18 (by decide) ?_
    refine lv_goto (tgt := 61) hx hb d_Log_state_19 (by decide) ?_
    exact ret_i hx hb hr hlocks hK hP hD hS (by rw [c_11]; rfl) d_Log_state_61
  · refine lv_iconst (v := (nI 1)) hx hb d_Log_state_14 (by decide) ?_
    refine lv_goto (tgt := 61) hx hb d_Log_state_15 (by decide) ?_
    exact ret_i hx hb hr hlocks hK hP hD hS (by rw [c_11]; rfl) d_Log_state_61
set_option maxHeartbeats 4000000 in
set_option maxRecDepth 100000 in
theorem c_Log_state_1 (l : Launch) (D : va_G) (k : Nat → ClassId) (q : Nat → Nat) (wk hm lg : Nat → Int8) (dt : Nat → Bool) (ld : Nat → Nat) (ct : Nat) (mk on : Bool) (un sh : Nat) : Ci l D (tyK k) y_Log_state k_Log_state ({ frames := 0, cells := 0, slots := 0, locals := 0 }) [.ref (q 0), .int (nI 1)] (cW k q wk hm lg dt ld ct mk on un sh) (bI mk) (cW k q wk hm lg dt ld ct mk on un sh) := by
  refine open_i (by decide) (Nat.le_of_ble_eq_true rfl) ?_
  intro pg ev s m below meth c A hx hb hml hr hlocks htw hown hnm hA hS hP hK hD hN ls hl
  have hown : s.vm.findClass R_Log = some m.cls := hown
  have hl : lv_has ls 2 [(0, .ref (q 0)), (1, .int (nI 1))] := hl
  refine lv_iload_n hx hb d_Log_state_0 rfl (lv_at hl 1 rfl) ?_
  refine lv_as (y := (bI true)) rfl ?_
  refine my_ifne (tgt := 22) hx hb d_Log_state_1 (by decide) (fun _ => ?_) (fun c => absurd c (by decide))
  refine lv_iload_n hx hb d_Log_state_22 rfl (lv_at hl 1 rfl) ?_
  refine lv_iconst (v := (nI 1)) hx hb d_Log_state_23 (by decide) ?_
  refine my_icmpne (tgt := 45) hx hb (x := 1) (y := 1) (by omega) (by omega) d_Log_state_24 (by decide) (fun c_24 => absurd c_24 (by omega)) (fun c_24 => ?_)
  refine lv_aload_n hx hb d_Log_state_27 rfl (lv_at hl 0 rfl) ?_
  refine va_get (D := D) (ci := 0) (v := .ref (q 1)) (C := R_Log) (T := F_Log) (N := 1) hx hb htw i_Log hown hK hP 0 rfl rfl 0 (by decide) (htw _ tw_69) (fun _ h9 => h9) rfl d_Log_state_28 ?_
  refine va_getN (D := D) (ci := 1) (v := .int (bI mk)) (C := R_Disk) (T := F_Disk) (N := 10) hx hb htw i_Disk hown hK hP 1 rfl rfl 6 (by decide) (NW.w57 hN) (fun _ h9 => h9) rfl d_Log_state_31 ?_
  refine my_ifeq (tgt := 41) hx hb d_Log_state_34 (by decide) (fun c_34 => ?_) (fun c_34 => ?_)
  · refine lv_iconst (v := (nI 0)) hx hb d_Log_state_41 (by decide) ?_
    refine lv_goto (tgt := 61) hx hb d_Log_state_42 (by decide) ?_
    exact ret_i hx hb hr hlocks hK hP hD hS (by rw [c_34]; rfl) d_Log_state_61
  · refine lv_iconst (v := (nI 1)) hx hb d_Log_state_37 (by decide) ?_
    refine lv_goto (tgt := 61) hx hb d_Log_state_38 (by decide) ?_
    exact ret_i hx hb hr hlocks hK hP hD hS (by rw [c_34]; rfl) d_Log_state_61
set_option maxHeartbeats 4000000 in
set_option maxRecDepth 100000 in
theorem c_Log_state_2 (l : Launch) (D : va_G) (k : Nat → ClassId) (q : Nat → Nat) (wk hm lg : Nat → Int8) (dt : Nat → Bool) (ld : Nat → Nat) (ct : Nat) (mk on : Bool) (un sh : Nat) : Ci l D (tyK k) y_Log_state k_Log_state ({ frames := 0, cells := 0, slots := 0, locals := 0 }) [.ref (q 0), .int (nI 2)] (cW k q wk hm lg dt ld ct mk on un sh) (nI ct) (cW k q wk hm lg dt ld ct mk on un sh) := by
  refine open_i (by decide) (Nat.le_of_ble_eq_true rfl) ?_
  intro pg ev s m below meth c A hx hb hml hr hlocks htw hown hnm hA hS hP hK hD hN ls hl
  have hown : s.vm.findClass R_Log = some m.cls := hown
  have hl : lv_has ls 2 [(0, .ref (q 0)), (1, .int (nI 2))] := hl
  refine lv_iload_n hx hb d_Log_state_0 rfl (lv_at hl 1 rfl) ?_
  refine lv_if_ne (tgt := 22) hx hb d_Log_state_1 (by decide) (fun c_1 => ?_) (fun c_1 => absurd c_1 (by decide))
  refine lv_iload_n hx hb d_Log_state_22 rfl (lv_at hl 1 rfl) ?_
  refine lv_iconst (v := (nI 1)) hx hb d_Log_state_23 (by decide) ?_
  refine my_icmpne (tgt := 45) hx hb (x := 2) (y := 1) (by omega) (by omega) d_Log_state_24 (by decide) (fun c_24 => ?_) (fun c_24 => absurd c_24 (by omega))
  refine lv_iload_n hx hb d_Log_state_45 rfl (lv_at hl 1 rfl) ?_
  refine lv_iconst (v := (nI 2)) hx hb d_Log_state_46 (by decide) ?_
  refine my_icmpne (tgt := 60) hx hb (x := 2) (y := 2) (by omega) (by omega) d_Log_state_47 (by decide) (fun c_47 => absurd c_47 (by omega)) (fun c_47 => ?_)
  refine lv_aload_n hx hb d_Log_state_50 rfl (lv_at hl 0 rfl) ?_
  refine va_get (D := D) (ci := 0) (v := .ref (q 1)) (C := R_Log) (T := F_Log) (N := 1) hx hb htw i_Log hown hK hP 0 rfl rfl 0 (by decide) (htw _ tw_69) (fun _ h9 => h9) rfl d_Log_state_51 ?_
  refine va_getN (D := D) (ci := 1) (v := .int (nI ct)) (C := R_Disk) (T := F_Disk) (N := 10) hx hb htw i_Disk hown hK hP 1 rfl rfl 5 (by decide) (NW.w60 hN) (fun _ h9 => h9) rfl d_Log_state_54 ?_
  refine lv_goto (tgt := 61) hx hb d_Log_state_57 (by decide) ?_
  exact ret_i hx hb hr hlocks hK hP hD hS rfl d_Log_state_61
set_option maxHeartbeats 4000000 in
set_option maxRecDepth 100000 in
theorem c_Log_state_n (l : Launch) (D : va_G) (k : Nat → ClassId) (q : Nat → Nat) (wk hm lg : Nat → Int8) (dt : Nat → Bool) (ld : Nat → Nat) (ct : Nat) (mk on : Bool) (un sh : Nat) (a : Int32) (h0 : ¬ a = nI 0) (h1 : ¬ a = nI 1) (h2 : ¬ a = nI 2) : Ci l D (tyK k) y_Log_state k_Log_state ({ frames := 0, cells := 0, slots := 0, locals := 0 }) [.ref (q 0), .int a] (cW k q wk hm lg dt ld ct mk on un sh) (-1) (cW k q wk hm lg dt ld ct mk on un sh) := by
  refine open_i (by decide) (Nat.le_of_ble_eq_true rfl) ?_
  intro pg ev s m below meth c A hx hb hml hr hlocks htw hown hnm hA hS hP hK hD hN ls hl
  have hown : s.vm.findClass R_Log = some m.cls := hown
  have hl : lv_has ls 2 [(0, .ref (q 0)), (1, .int a)] := hl
  refine lv_iload_n hx hb d_Log_state_0 rfl (lv_at hl 1 rfl) ?_
  refine lv_if_ne (tgt := 22) hx hb d_Log_state_1 (by decide) (fun c_1 => ?_) (fun c_1 => absurd c_1 h0)
  refine lv_iload_n hx hb d_Log_state_22 rfl (lv_at hl 1 rfl) ?_
  refine lv_iconst (v := (nI 1)) hx hb d_Log_state_23 (by decide) ?_
  refine lv_icmp_ne (tgt := 45) hx hb d_Log_state_24 (by decide) (fun c_24 => ?_) (fun c_24 => absurd c_24 h1)
  refine lv_iload_n hx hb d_Log_state_45 rfl (lv_at hl 1 rfl) ?_
  refine lv_iconst (v := (nI 2)) hx hb d_Log_state_46 (by decide) ?_
  refine lv_icmp_ne (tgt := 60) hx hb d_Log_state_47 (by decide) (fun c_47 => ?_) (fun c_47 => absurd c_47 h2)
  refine lv_iconst (v := -1) hx hb d_Log_state_60 (by decide) ?_
  exact ret_i hx hb hr hlocks hK hP hD hS rfl d_Log_state_61
end
section
theorem stN {a : Int32} (h : ¬ stP a) : a < nI 0 ∨ nI 1000 < a := by
  rcases pk_ix a (n := 1001) (by decide) with h1 | h1 | ⟨x, hx, rfl⟩
  · exact Or.inl h1
  · exact Or.inr (ge_gt (by decide) h1)
  · exact absurd ⟨x, by omega, rfl⟩ h
theorem blN {a : Int32} (h : ¬ blP a) : a < nI 0 ∨ nI 23 < a := by
  rcases pk_ix a (n := 24) (by decide) with h1 | h1 | ⟨x, hx, rfl⟩
  · exact Or.inl h1
  · exact Or.inr (ge_gt (by decide) h1)
  · exact absurd ⟨x, hx, rfl⟩ h
theorem swN {a : Int32} (h0 : ¬ a = nI 0) (h1 : ¬ a = nI 1) (h2 : ¬ a = nI 2) : a.toInt < 0 ∨ 2 < a.toInt := by
  rcases pk_ix a (n := 3) (by decide) with h | h | ⟨x, hx, rfl⟩
  · rw [Int32.lt_iff_toInt_lt] at h
    exact Or.inl h
  · rw [Int32.le_iff_toInt_le, nI_toInt (by decide)] at h
    exact Or.inr (by omega)
  · rcases (show x = 0 ∨ x = 1 ∨ x = 2 by omega) with rfl | rfl | rfl
    · exact absurd rfl h0
    · exact absurd rfl h1
    · exact absurd rfl h2
set_option maxHeartbeats 4000000 in
set_option maxRecDepth 100000 in
theorem c_Model_in_y (l : Launch) (D : va_G) (k : Nat → ClassId) (v a z : Int32) (h1 : ¬ v < a) (h2 : ¬ z < v) : Ci l D (tyK k) y_Model_in k_Model_in ({ frames := 0, cells := 0, slots := 0, locals := 0 }) [.int v, .int a, .int z] ([]) (bI true) ([]) := by
  refine open_i (by decide) (Nat.le_of_ble_eq_true rfl) ?_
  intro pg ev s m below meth c A hx hb hml hr hlocks htw hown hnm hA hS hP hK hD hN ls hl
  have hown : s.vm.findClass R_Model = some m.cls := hown
  have hl : lv_has ls 3 [(0, .int v), (1, .int a), (2, .int z)] := hl
  refine lv_iload_n hx hb d_Model_in_0 rfl (lv_at hl 0 rfl) ?_
  refine lv_iload_n hx hb d_Model_in_1 rfl (lv_at hl 1 rfl) ?_
  refine lv_icmp_lt (tgt := 14) hx hb d_Model_in_2 (by decide) (fun c_2 => absurd c_2 h1) (fun c_2 => ?_)
  refine lv_iload_n hx hb d_Model_in_5 rfl (lv_at hl 0 rfl) ?_
  refine lv_iload_n hx hb d_Model_in_6 rfl (lv_at hl 2 rfl) ?_
  refine lv_icmp_gt (tgt := 14) hx hb d_Model_in_7 (by decide) (fun c_7 => absurd c_7 h2) (fun c_7 => ?_)
  refine lv_iconst (v := (nI 1)) hx hb d_Model_in_10 (by decide) ?_
  refine lv_goto (tgt := 15) hx hb d_Model_in_11 (by decide) ?_
  refine lv_as (y := (bI true)) rfl ?_
  exact ret_z hx hb hr hlocks hK hP hD hS (v := true) rfl d_Model_in_15
set_option maxHeartbeats 4000000 in
set_option maxRecDepth 100000 in
theorem c_Model_in_n (l : Launch) (D : va_G) (k : Nat → ClassId) (v a z : Int32) (h : v < a ∨ z < v) : Ci l D (tyK k) y_Model_in k_Model_in ({ frames := 0, cells := 0, slots := 0, locals := 0 }) [.int v, .int a, .int z] ([]) (bI false) ([]) := by
  refine open_i (by decide) (Nat.le_of_ble_eq_true rfl) ?_
  intro pg ev s m below meth c A hx hb hml hr hlocks htw hown hnm hA hS hP hK hD hN ls hl
  have hown : s.vm.findClass R_Model = some m.cls := hown
  have hl : lv_has ls 3 [(0, .int v), (1, .int a), (2, .int z)] := hl
  refine lv_iload_n hx hb d_Model_in_0 rfl (lv_at hl 0 rfl) ?_
  refine lv_iload_n hx hb d_Model_in_1 rfl (lv_at hl 1 rfl) ?_
  refine lv_icmp_lt (tgt := 14) hx hb d_Model_in_2 (by decide) (fun c_2 => ?_) (fun c_2 => ?_)
  · refine lv_iconst (v := (nI 0)) hx hb d_Model_in_14 (by decide) ?_
    refine lv_as (y := (bI false)) rfl ?_
    exact ret_z hx hb hr hlocks hK hP hD hS (v := false) rfl d_Model_in_15
  · refine lv_iload_n hx hb d_Model_in_5 rfl (lv_at hl 0 rfl) ?_
    refine lv_iload_n hx hb d_Model_in_6 rfl (lv_at hl 2 rfl) ?_
    refine lv_icmp_gt (tgt := 14) hx hb d_Model_in_7 (by decide) (fun c_7 => ?_) (fun c_7 => ?_)
    · refine lv_iconst (v := (nI 0)) hx hb d_Model_in_14 (by decide) ?_
      refine lv_as (y := (bI false)) rfl ?_
      exact ret_z hx hb hr hlocks hK hP hD hS (v := false) rfl d_Model_in_15
    · exact absurd h (fun z => z.elim c_2 c_7)
set_option maxHeartbeats 4000000 in
set_option maxRecDepth 100000 in
theorem c_Model_isPlace_y (l : Launch) (D : va_G) (k : Nat → ClassId) (b p : Nat) (hb24 : b < 24) (hp16 : p < 16) : Ci l D (tyK k) y_Model_isPlace k_Model_isPlace ({ frames := 1, cells := 0, slots := 0, locals := 22 }) [.int (nI b), .int (nI p)] ([]) (bI true) ([]) := by
  refine open_i (by decide) (Nat.le_of_ble_eq_true rfl) ?_
  intro pg ev s m below meth c A hx hb hml hr hlocks htw hown hnm hA hS hP hK hD hN ls hl
  have hown : s.vm.findClass R_Model = some m.cls := hown
  have hl : lv_has ls 2 [(0, .int (nI b)), (1, .int (nI p))] := hl
  refine lv_iload_n hx hb d_Model_isPlace_0 rfl (lv_at hl 0 rfl) ?_
  refine lv_iconst (v := (nI 0)) hx hb d_Model_isPlace_1 (by decide) ?_
  refine lv_bipush (v := (nI 23)) hx hb d_Model_isPlace_2 (by decide) ?_
  refine call_Si (n := 3) (As := [.int (nI b), .int (nI 0), .int (nI 23)]) (ws' := []) ⟨hx, hb, hml, hown, htw⟩ (c_Model_in_y l D k (nI b) (nI 0) (nI 23) (nI_nlt (show 0 ≤ b by omega) (by omega)) (nI_nlt (show b ≤ 23 by omega) (by decide))) (in_S tw_190 tw_191 tw_11 tw_192) (by decide +kernel) ⟨rfl, rfl, Nat.le_of_ble_eq_true rfl, Nat.le_of_ble_eq_true rfl⟩ hK hN hP hD hS hA [] [] [] rfl rfl ([]) rfl rfl (by decide) rfl rfl hl.1 rfl rfl (Nat.le_of_ble_eq_true rfl) d_Model_isPlace_4 ⟨Nat.zero_le _, Nat.zero_le _⟩ (fun H locs hP hD hS => ?_)
  refine my_ifeq (tgt := 24) hx hb d_Model_isPlace_7 (by decide) (fun c => absurd c (by decide)) (fun _ => ?_)
  refine lv_iload_n hx hb d_Model_isPlace_10 rfl (lv_at hl 1 rfl) ?_
  refine lv_iconst (v := (nI 0)) hx hb d_Model_isPlace_11 (by decide) ?_
  refine lv_bipush (v := (nI 15)) hx hb d_Model_isPlace_12 (by decide) ?_
  refine call_Si (n := 3) (As := [.int (nI p), .int (nI 0), .int (nI 15)]) (ws' := []) ⟨hx, hb, hml, hown, htw⟩ (c_Model_in_y l D k (nI p) (nI 0) (nI 15) (nI_nlt (show 0 ≤ p by omega) (by omega)) (nI_nlt (show p ≤ 15 by omega) (by decide))) (in_S tw_190 tw_191 tw_11 tw_192) (by decide +kernel) ⟨rfl, rfl, Nat.le_of_ble_eq_true rfl, Nat.le_of_ble_eq_true rfl⟩ hK hN hP hD hS hA [] [] [] rfl rfl ([]) rfl rfl (by decide) rfl rfl hl.1 rfl rfl (Nat.le_of_ble_eq_true rfl) d_Model_isPlace_14 ⟨Nat.zero_le _, Nat.zero_le _⟩ (fun H locs hP hD hS => ?_)
  refine my_ifeq (tgt := 24) hx hb d_Model_isPlace_17 (by decide) (fun c => absurd c (by decide)) (fun _ => ?_)
  refine lv_iconst (v := (nI 1)) hx hb d_Model_isPlace_20 (by decide) ?_
  refine lv_goto (tgt := 25) hx hb d_Model_isPlace_21 (by decide) ?_
  refine lv_as (y := (bI true)) rfl ?_
  exact ret_z hx hb hr hlocks hK hP hD hS (v := true) rfl d_Model_isPlace_25
set_option maxHeartbeats 4000000 in
set_option maxRecDepth 100000 in
theorem c_Model_isPlace_n (l : Launch) (D : va_G) (k : Nat → ClassId) (b p : Int32) (hno : ¬ isP b p) : Ci l D (tyK k) y_Model_isPlace k_Model_isPlace ({ frames := 1, cells := 0, slots := 0, locals := 22 }) [.int b, .int p] ([]) (bI false) ([]) := by
  refine open_i (by decide) (Nat.le_of_ble_eq_true rfl) ?_
  intro pg ev s m below meth c A hx hb hml hr hlocks htw hown hnm hA hS hP hK hD hN ls hl
  have hown : s.vm.findClass R_Model = some m.cls := hown
  have hl : lv_has ls 2 [(0, .int b), (1, .int p)] := hl
  rcases pk_ix b (n := 24) (by decide) with hb0 | hb0 | ⟨x, hxx, rfl⟩
  · refine lv_iload_n hx hb d_Model_isPlace_0 rfl (lv_at hl 0 rfl) ?_
    refine lv_iconst (v := (nI 0)) hx hb d_Model_isPlace_1 (by decide) ?_
    refine lv_bipush (v := (nI 23)) hx hb d_Model_isPlace_2 (by decide) ?_
    refine call_Si (n := 3) (As := [.int b, .int (nI 0), .int (nI 23)]) (ws' := []) ⟨hx, hb, hml, hown, htw⟩ (c_Model_in_n l D k b (nI 0) (nI 23) (Or.inl hb0)) (in_S tw_190 tw_191 tw_11 tw_192) (by decide +kernel) ⟨rfl, rfl, Nat.le_of_ble_eq_true rfl, Nat.le_of_ble_eq_true rfl⟩ hK hN hP hD hS hA [] [] [] rfl rfl ([]) rfl rfl (by decide) rfl rfl hl.1 rfl rfl (Nat.le_of_ble_eq_true rfl) d_Model_isPlace_4 ⟨Nat.zero_le _, Nat.zero_le _⟩ (fun H locs hP hD hS => ?_)
    refine my_ifeq (tgt := 24) hx hb d_Model_isPlace_7 (by decide) (fun _ => ?_) (fun c => absurd c (by decide))
    refine lv_iconst (v := (nI 0)) hx hb d_Model_isPlace_24 (by decide) ?_
    refine lv_as (y := (bI false)) rfl ?_
    exact ret_z hx hb hr hlocks hK hP hD hS (v := false) rfl d_Model_isPlace_25
  · refine lv_iload_n hx hb d_Model_isPlace_0 rfl (lv_at hl 0 rfl) ?_
    refine lv_iconst (v := (nI 0)) hx hb d_Model_isPlace_1 (by decide) ?_
    refine lv_bipush (v := (nI 23)) hx hb d_Model_isPlace_2 (by decide) ?_
    refine call_Si (n := 3) (As := [.int b, .int (nI 0), .int (nI 23)]) (ws' := []) ⟨hx, hb, hml, hown, htw⟩ (c_Model_in_n l D k b (nI 0) (nI 23) (Or.inr (ge_gt (by decide) hb0))) (in_S tw_190 tw_191 tw_11 tw_192) (by decide +kernel) ⟨rfl, rfl, Nat.le_of_ble_eq_true rfl, Nat.le_of_ble_eq_true rfl⟩ hK hN hP hD hS hA [] [] [] rfl rfl ([]) rfl rfl (by decide) rfl rfl hl.1 rfl rfl (Nat.le_of_ble_eq_true rfl) d_Model_isPlace_4 ⟨Nat.zero_le _, Nat.zero_le _⟩ (fun H locs hP hD hS => ?_)
    refine my_ifeq (tgt := 24) hx hb d_Model_isPlace_7 (by decide) (fun _ => ?_) (fun c => absurd c (by decide))
    refine lv_iconst (v := (nI 0)) hx hb d_Model_isPlace_24 (by decide) ?_
    refine lv_as (y := (bI false)) rfl ?_
    exact ret_z hx hb hr hlocks hK hP hD hS (v := false) rfl d_Model_isPlace_25
  · rcases pk_ix p (n := 16) (by decide) with hb1 | hb1 | ⟨y, hyy, rfl⟩
    · refine lv_iload_n hx hb d_Model_isPlace_0 rfl (lv_at hl 0 rfl) ?_
      refine lv_iconst (v := (nI 0)) hx hb d_Model_isPlace_1 (by decide) ?_
      refine lv_bipush (v := (nI 23)) hx hb d_Model_isPlace_2 (by decide) ?_
      refine call_Si (n := 3) (As := [.int (nI x), .int (nI 0), .int (nI 23)]) (ws' := []) ⟨hx, hb, hml, hown, htw⟩ (c_Model_in_y l D k (nI x) (nI 0) (nI 23) (nI_nlt (show 0 ≤ x by omega) (by omega)) (nI_nlt (show x ≤ 23 by omega) (by decide))) (in_S tw_190 tw_191 tw_11 tw_192) (by decide +kernel) ⟨rfl, rfl, Nat.le_of_ble_eq_true rfl, Nat.le_of_ble_eq_true rfl⟩ hK hN hP hD hS hA [] [] [] rfl rfl ([]) rfl rfl (by decide) rfl rfl hl.1 rfl rfl (Nat.le_of_ble_eq_true rfl) d_Model_isPlace_4 ⟨Nat.zero_le _, Nat.zero_le _⟩ (fun H locs hP hD hS => ?_)
      refine my_ifeq (tgt := 24) hx hb d_Model_isPlace_7 (by decide) (fun c => absurd c (by decide)) (fun _ => ?_)
      refine lv_iload_n hx hb d_Model_isPlace_10 rfl (lv_at hl 1 rfl) ?_
      refine lv_iconst (v := (nI 0)) hx hb d_Model_isPlace_11 (by decide) ?_
      refine lv_bipush (v := (nI 15)) hx hb d_Model_isPlace_12 (by decide) ?_
      refine call_Si (n := 3) (As := [.int p, .int (nI 0), .int (nI 15)]) (ws' := []) ⟨hx, hb, hml, hown, htw⟩ (c_Model_in_n l D k p (nI 0) (nI 15) (Or.inl hb1)) (in_S tw_190 tw_191 tw_11 tw_192) (by decide +kernel) ⟨rfl, rfl, Nat.le_of_ble_eq_true rfl, Nat.le_of_ble_eq_true rfl⟩ hK hN hP hD hS hA [] [] [] rfl rfl ([]) rfl rfl (by decide) rfl rfl hl.1 rfl rfl (Nat.le_of_ble_eq_true rfl) d_Model_isPlace_14 ⟨Nat.zero_le _, Nat.zero_le _⟩ (fun H locs hP hD hS => ?_)
      refine my_ifeq (tgt := 24) hx hb d_Model_isPlace_17 (by decide) (fun _ => ?_) (fun c => absurd c (by decide))
      refine lv_iconst (v := (nI 0)) hx hb d_Model_isPlace_24 (by decide) ?_
      refine lv_as (y := (bI false)) rfl ?_
      exact ret_z hx hb hr hlocks hK hP hD hS (v := false) rfl d_Model_isPlace_25
    · refine lv_iload_n hx hb d_Model_isPlace_0 rfl (lv_at hl 0 rfl) ?_
      refine lv_iconst (v := (nI 0)) hx hb d_Model_isPlace_1 (by decide) ?_
      refine lv_bipush (v := (nI 23)) hx hb d_Model_isPlace_2 (by decide) ?_
      refine call_Si (n := 3) (As := [.int (nI x), .int (nI 0), .int (nI 23)]) (ws' := []) ⟨hx, hb, hml, hown, htw⟩ (c_Model_in_y l D k (nI x) (nI 0) (nI 23) (nI_nlt (show 0 ≤ x by omega) (by omega)) (nI_nlt (show x ≤ 23 by omega) (by decide))) (in_S tw_190 tw_191 tw_11 tw_192) (by decide +kernel) ⟨rfl, rfl, Nat.le_of_ble_eq_true rfl, Nat.le_of_ble_eq_true rfl⟩ hK hN hP hD hS hA [] [] [] rfl rfl ([]) rfl rfl (by decide) rfl rfl hl.1 rfl rfl (Nat.le_of_ble_eq_true rfl) d_Model_isPlace_4 ⟨Nat.zero_le _, Nat.zero_le _⟩ (fun H locs hP hD hS => ?_)
      refine my_ifeq (tgt := 24) hx hb d_Model_isPlace_7 (by decide) (fun c => absurd c (by decide)) (fun _ => ?_)
      refine lv_iload_n hx hb d_Model_isPlace_10 rfl (lv_at hl 1 rfl) ?_
      refine lv_iconst (v := (nI 0)) hx hb d_Model_isPlace_11 (by decide) ?_
      refine lv_bipush (v := (nI 15)) hx hb d_Model_isPlace_12 (by decide) ?_
      refine call_Si (n := 3) (As := [.int p, .int (nI 0), .int (nI 15)]) (ws' := []) ⟨hx, hb, hml, hown, htw⟩ (c_Model_in_n l D k p (nI 0) (nI 15) (Or.inr (ge_gt (by decide) hb1))) (in_S tw_190 tw_191 tw_11 tw_192) (by decide +kernel) ⟨rfl, rfl, Nat.le_of_ble_eq_true rfl, Nat.le_of_ble_eq_true rfl⟩ hK hN hP hD hS hA [] [] [] rfl rfl ([]) rfl rfl (by decide) rfl rfl hl.1 rfl rfl (Nat.le_of_ble_eq_true rfl) d_Model_isPlace_14 ⟨Nat.zero_le _, Nat.zero_le _⟩ (fun H locs hP hD hS => ?_)
      refine my_ifeq (tgt := 24) hx hb d_Model_isPlace_17 (by decide) (fun _ => ?_) (fun c => absurd c (by decide))
      refine lv_iconst (v := (nI 0)) hx hb d_Model_isPlace_24 (by decide) ?_
      refine lv_as (y := (bI false)) rfl ?_
      exact ret_z hx hb hr hlocks hK hP hD hS (v := false) rfl d_Model_isPlace_25
    · exact absurd ⟨x, y, hxx, hyy, rfl, rfl⟩ hno
set_option maxHeartbeats 4000000 in
set_option maxRecDepth 100000 in
theorem c_Model_write_off (l : Launch) (D : va_G) (k : Nat → ClassId) (q : Nat → Nat) (wk : Nat → Int8) (dk : Nat → Int8) (lg : Nat → Int8) (dt : Nat → Bool) (lo : Nat → Bool) (mk : Bool) (la : Nat) (lf : Int32) (sh : Nat) (b p v : Int32) : Ci l D (tyK k) y_Model_write k_Model_write ({ frames := 2, cells := 0, slots := 0, locals := 43 }) [.ref (q 7), .int b, .int p, .int v] (mW k q wk dk lg dt lo true mk la lf sh) (bI false) (mW k q wk dk lg dt lo true mk la lf sh) := by
  refine open_i (by decide) (Nat.le_of_ble_eq_true rfl) ?_
  intro pg ev s m below meth c A hx hb hml hr hlocks htw hown hnm hA hS hP hK hD hN ls hl
  have hown : s.vm.findClass R_Model = some m.cls := hown
  have hl : lv_has ls 4 [(0, .ref (q 7)), (1, .int b), (2, .int p), (3, .int v)] := hl
  refine lv_aload_n hx hb d_Model_write_0 rfl (lv_at hl 0 rfl) ?_
  refine va_get (D := D) (ci := 2) (v := .int (bI true)) (C := R_Model) (T := F_Model) (N := 10) hx hb htw i_Model hown hK hP 0 rfl rfl 5 (by decide) (htw _ tw_157) (fun _ h9 => h9) rfl d_Model_write_1 ?_
  refine my_ifne (tgt := 15) hx hb d_Model_write_4 (by decide) (fun _ => ?_) (fun c => absurd c (by decide))
  refine lv_iconst (v := (nI 0)) hx hb d_Model_write_15 (by decide) ?_
  refine lv_as (y := (bI false)) rfl ?_
  exact ret_z hx hb hr hlocks hK hP hD hS (v := false) rfl d_Model_write_16
set_option maxHeartbeats 4000000 in
set_option maxRecDepth 100000 in
theorem c_Model_write_n (l : Launch) (D : va_G) (k : Nat → ClassId) (q : Nat → Nat) (wk : Nat → Int8) (dk : Nat → Int8) (lg : Nat → Int8) (dt : Nat → Bool) (lo : Nat → Bool) (mk : Bool) (la : Nat) (lf : Int32) (sh : Nat) (b p v : Int32) (hno : ¬ isP b p) : Ci l D (tyK k) y_Model_write k_Model_write ({ frames := 2, cells := 0, slots := 0, locals := 43 }) [.ref (q 7), .int b, .int p, .int v] (mW k q wk dk lg dt lo false mk la lf sh) (bI false) (mW k q wk dk lg dt lo false mk la lf sh) := by
  refine open_i (by decide) (Nat.le_of_ble_eq_true rfl) ?_
  intro pg ev s m below meth c A hx hb hml hr hlocks htw hown hnm hA hS hP hK hD hN ls hl
  have hown : s.vm.findClass R_Model = some m.cls := hown
  have hl : lv_has ls 4 [(0, .ref (q 7)), (1, .int b), (2, .int p), (3, .int v)] := hl
  refine lv_aload_n hx hb d_Model_write_0 rfl (lv_at hl 0 rfl) ?_
  refine va_get (D := D) (ci := 2) (v := .int (bI false)) (C := R_Model) (T := F_Model) (N := 10) hx hb htw i_Model hown hK hP 0 rfl rfl 5 (by decide) (htw _ tw_157) (fun _ h9 => h9) rfl d_Model_write_1 ?_
  refine my_ifne (tgt := 15) hx hb d_Model_write_4 (by decide) (fun c => absurd c (by decide)) (fun _ => ?_)
  refine lv_iload_n hx hb d_Model_write_7 rfl (lv_at hl 1 rfl) ?_
  refine lv_iload_n hx hb d_Model_write_8 rfl (lv_at hl 2 rfl) ?_
  refine call_Si (n := 2) (As := [.int b, .int p]) (ws' := mW k q wk dk lg dt lo false mk la lf sh) ⟨hx, hb, hml, hown, htw⟩ (c_Model_isPlace_n l D k b p hno) (in_S tw_187 tw_188 tw_11 tw_189) (by decide +kernel) ⟨rfl, rfl, Nat.le_of_ble_eq_true rfl, Nat.le_of_ble_eq_true rfl⟩ hK hN hP hD hS hA [] [0, 1, 2, 3, 4, 5] [0, 1, 2, 3, 4, 5] rfl rfl ([oM q false mk la lf sh, aB k (q 8) wk, aB k (q 9) dk, aB k (q 10) lg, aZ k (q 11) dt, aZ k (q 12) lo]) rfl rfl (by decide) rfl rfl hl.1 rfl rfl (Nat.le_of_ble_eq_true rfl) d_Model_write_9 ⟨Nat.zero_le _, Nat.zero_le _⟩ (fun H locs hP hD hS => ?_)
  refine my_ifne (tgt := 17) hx hb d_Model_write_12 (by decide) (fun c => absurd c (by decide)) (fun _ => ?_)
  refine lv_iconst (v := (nI 0)) hx hb d_Model_write_15 (by decide) ?_
  refine lv_as (y := (bI false)) rfl ?_
  exact ret_z hx hb hr hlocks hK hP hD hS (v := false) rfl d_Model_write_16
set_option maxHeartbeats 4000000 in
set_option maxRecDepth 100000 in
theorem c_Model_write_y (l : Launch) (D : va_G) (k : Nat → ClassId) (q : Nat → Nat) (wk : Nat → Int8) (dk : Nat → Int8) (lg : Nat → Int8) (dt : Nat → Bool) (lo : Nat → Bool) (mk : Bool) (la : Nat) (lf : Int32) (sh : Nat) (b p : Nat) (v : Int32) (hb24 : b < 24) (hp16 : p < 16) : Ci l D (tyK k) y_Model_write k_Model_write ({ frames := 2, cells := 0, slots := 0, locals := 43 }) [.ref (q 7), .int (nI b), .int (nI p), .int v] (mW k q wk dk lg dt lo false mk la lf sh) (bI true) (mW k q (va_up wk (16 * b + p) v.toInt8) dk lg (va_up dt b true) lo false mk la lf sh) := by
  refine open_i (by decide) (Nat.le_of_ble_eq_true rfl) ?_
  intro pg ev s m below meth c A hx hb hml hr hlocks htw hown hnm hA hS hP hK hD hN ls hl
  have hown : s.vm.findClass R_Model = some m.cls := hown
  have hl : lv_has ls 4 [(0, .ref (q 7)), (1, .int (nI b)), (2, .int (nI p)), (3, .int v)] := hl
  refine lv_aload_n hx hb d_Model_write_0 rfl (lv_at hl 0 rfl) ?_
  refine va_get (D := D) (ci := 2) (v := .int (bI false)) (C := R_Model) (T := F_Model) (N := 10) hx hb htw i_Model hown hK hP 0 rfl rfl 5 (by decide) (htw _ tw_157) (fun _ h9 => h9) rfl d_Model_write_1 ?_
  refine my_ifne (tgt := 15) hx hb d_Model_write_4 (by decide) (fun c => absurd c (by decide)) (fun _ => ?_)
  refine lv_iload_n hx hb d_Model_write_7 rfl (lv_at hl 1 rfl) ?_
  refine lv_iload_n hx hb d_Model_write_8 rfl (lv_at hl 2 rfl) ?_
  refine call_Si (n := 2) (As := [.int (nI b), .int (nI p)]) (ws' := mW k q wk dk lg dt lo false mk la lf sh) ⟨hx, hb, hml, hown, htw⟩ (c_Model_isPlace_y l D k b p hb24 hp16) (in_S tw_187 tw_188 tw_11 tw_189) (by decide +kernel) ⟨rfl, rfl, Nat.le_of_ble_eq_true rfl, Nat.le_of_ble_eq_true rfl⟩ hK hN hP hD hS hA [] [0, 1, 2, 3, 4, 5] [0, 1, 2, 3, 4, 5] rfl rfl ([oM q false mk la lf sh, aB k (q 8) wk, aB k (q 9) dk, aB k (q 10) lg, aZ k (q 11) dt, aZ k (q 12) lo]) rfl rfl (by decide) rfl rfl hl.1 rfl rfl (Nat.le_of_ble_eq_true rfl) d_Model_write_9 ⟨Nat.zero_le _, Nat.zero_le _⟩ (fun H locs hP hD hS => ?_)
  refine my_ifne (tgt := 17) hx hb d_Model_write_12 (by decide) (fun _ => ?_) (fun c => absurd c (by decide))
  refine lv_aload_n hx hb d_Model_write_17 rfl (lv_at hl 0 rfl) ?_
  refine va_get (D := D) (ci := 2) (v := .ref (q 8)) (C := R_Model) (T := F_Model) (N := 10) hx hb htw i_Model hown hK hP 0 rfl rfl 0 (by decide) (htw _ tw_152) (fun _ h9 => h9) rfl d_Model_write_18 ?_
  refine lv_bipush (v := (nI 16)) hx hb d_Model_write_21 (by decide) ?_
  refine lv_iload_n hx hb d_Model_write_23 rfl (lv_at hl 1 rfl) ?_
  refine my_imul hx hb (x := 16) (y := b) d_Model_write_24 ?_
  refine lv_iload_n hx hb d_Model_write_25 rfl (lv_at hl 2 rfl) ?_
  refine my_iadd hx hb (x := 16 * b) (y := p) d_Model_write_26 ?_
  refine lv_iload_n hx hb d_Model_write_27 rfl (lv_at hl 3 rfl) ?_
  refine lv_i2b (v := (v.toInt8).toInt32) hx hb d_Model_write_28 rfl ?_
  refine my_bast hx hb hK hP hD hS 1 0 rfl rfl (i := (16 * b) + p) (v := v.toInt8) (by omega) (by decide) d_Model_write_29 (fun H locs hP hD hS => ?_)
  have hP : va_P D classes (mW k q (va_up wk ((16 * b) + p) v.toInt8) dk lg dt lo false mk la lf sh) H := hP
  have hD : va_D A (mW k q (va_up wk ((16 * b) + p) v.toInt8) dk lg dt lo false mk la lf sh) := hD
  refine lv_aload_n hx hb d_Model_write_30 rfl (lv_at hl 0 rfl) ?_
  refine va_get (D := D) (ci := 2) (v := .ref (q 11)) (C := R_Model) (T := F_Model) (N := 10) hx hb htw i_Model hown hK hP 0 rfl rfl 3 (by decide) (htw _ tw_155) (fun _ h9 => h9) rfl d_Model_write_31 ?_
  refine lv_iload_n hx hb d_Model_write_34 rfl (lv_at hl 1 rfl) ?_
  refine lv_iconst (v := (nI 1)) hx hb d_Model_write_35 (by decide) ?_
  refine lv_as (y := (bI true)) rfl ?_
  refine my_zast hx hb hK hP hD hS 4 1 rfl rfl (i := b) (v := true) (by omega) (by decide) d_Model_write_36 (fun H locs hP hD hS => ?_)
  have hP : va_P D classes (mW k q (va_up wk ((16 * b) + p) v.toInt8) dk lg (va_up dt b true) lo false mk la lf sh) H := hP
  have hD : va_D A (mW k q (va_up wk ((16 * b) + p) v.toInt8) dk lg (va_up dt b true) lo false mk la lf sh) := hD
  refine lv_iconst (v := (nI 1)) hx hb d_Model_write_37 (by decide) ?_
  refine lv_as (y := (bI true)) rfl ?_
  exact ret_z hx hb hr hlocks hK hP hD hS (v := true) rfl d_Model_write_38
set_option maxHeartbeats 4000000 in
set_option maxRecDepth 100000 in
theorem c_Model_read_off (l : Launch) (D : va_G) (k : Nat → ClassId) (q : Nat → Nat) (wk : Nat → Int8) (dk : Nat → Int8) (lg : Nat → Int8) (dt : Nat → Bool) (lo : Nat → Bool) (mk : Bool) (la : Nat) (lf : Int32) (sh : Nat) (b p : Int32) : Ci l D (tyK k) y_Model_read k_Model_read ({ frames := 2, cells := 0, slots := 0, locals := 43 }) [.ref (q 7), .int b, .int p] (mW k q wk dk lg dt lo true mk la lf sh) (-1) (mW k q wk dk lg dt lo true mk la lf sh) := by
  refine open_i (by decide) (Nat.le_of_ble_eq_true rfl) ?_
  intro pg ev s m below meth c A hx hb hml hr hlocks htw hown hnm hA hS hP hK hD hN ls hl
  have hown : s.vm.findClass R_Model = some m.cls := hown
  have hl : lv_has ls 3 [(0, .ref (q 7)), (1, .int b), (2, .int p)] := hl
  refine lv_aload_n hx hb d_Model_read_0 rfl (lv_at hl 0 rfl) ?_
  refine va_get (D := D) (ci := 2) (v := .int (bI true)) (C := R_Model) (T := F_Model) (N := 10) hx hb htw i_Model hown hK hP 0 rfl rfl 5 (by decide) (htw _ tw_157) (fun _ h9 => h9) rfl d_Model_read_1 ?_
  refine my_ifne (tgt := 15) hx hb d_Model_read_4 (by decide) (fun _ => ?_) (fun c => absurd c (by decide))
  refine lv_iconst (v := -1) hx hb d_Model_read_15 (by decide) ?_
  refine lv_goto (tgt := 34) hx hb d_Model_read_16 (by decide) ?_
  exact ret_i hx hb hr hlocks hK hP hD hS rfl d_Model_read_34
set_option maxHeartbeats 4000000 in
set_option maxRecDepth 100000 in
theorem c_Model_read_n (l : Launch) (D : va_G) (k : Nat → ClassId) (q : Nat → Nat) (wk : Nat → Int8) (dk : Nat → Int8) (lg : Nat → Int8) (dt : Nat → Bool) (lo : Nat → Bool) (mk : Bool) (la : Nat) (lf : Int32) (sh : Nat) (b p : Int32) (hno : ¬ isP b p) : Ci l D (tyK k) y_Model_read k_Model_read ({ frames := 2, cells := 0, slots := 0, locals := 43 }) [.ref (q 7), .int b, .int p] (mW k q wk dk lg dt lo false mk la lf sh) (-1) (mW k q wk dk lg dt lo false mk la lf sh) := by
  refine open_i (by decide) (Nat.le_of_ble_eq_true rfl) ?_
  intro pg ev s m below meth c A hx hb hml hr hlocks htw hown hnm hA hS hP hK hD hN ls hl
  have hown : s.vm.findClass R_Model = some m.cls := hown
  have hl : lv_has ls 3 [(0, .ref (q 7)), (1, .int b), (2, .int p)] := hl
  refine lv_aload_n hx hb d_Model_read_0 rfl (lv_at hl 0 rfl) ?_
  refine va_get (D := D) (ci := 2) (v := .int (bI false)) (C := R_Model) (T := F_Model) (N := 10) hx hb htw i_Model hown hK hP 0 rfl rfl 5 (by decide) (htw _ tw_157) (fun _ h9 => h9) rfl d_Model_read_1 ?_
  refine my_ifne (tgt := 15) hx hb d_Model_read_4 (by decide) (fun c => absurd c (by decide)) (fun _ => ?_)
  refine lv_iload_n hx hb d_Model_read_7 rfl (lv_at hl 1 rfl) ?_
  refine lv_iload_n hx hb d_Model_read_8 rfl (lv_at hl 2 rfl) ?_
  refine call_Si (n := 2) (As := [.int b, .int p]) (ws' := mW k q wk dk lg dt lo false mk la lf sh) ⟨hx, hb, hml, hown, htw⟩ (c_Model_isPlace_n l D k b p hno) (in_S tw_187 tw_188 tw_11 tw_189) (by decide +kernel) ⟨rfl, rfl, Nat.le_of_ble_eq_true rfl, Nat.le_of_ble_eq_true rfl⟩ hK hN hP hD hS hA [] [0, 1, 2, 3, 4, 5] [0, 1, 2, 3, 4, 5] rfl rfl ([oM q false mk la lf sh, aB k (q 8) wk, aB k (q 9) dk, aB k (q 10) lg, aZ k (q 11) dt, aZ k (q 12) lo]) rfl rfl (by decide) rfl rfl hl.1 rfl rfl (Nat.le_of_ble_eq_true rfl) d_Model_read_9 ⟨Nat.zero_le _, Nat.zero_le _⟩ (fun H locs hP hD hS => ?_)
  refine my_ifne (tgt := 19) hx hb d_Model_read_12 (by decide) (fun c => absurd c (by decide)) (fun _ => ?_)
  refine lv_iconst (v := -1) hx hb d_Model_read_15 (by decide) ?_
  refine lv_goto (tgt := 34) hx hb d_Model_read_16 (by decide) ?_
  exact ret_i hx hb hr hlocks hK hP hD hS rfl d_Model_read_34
set_option maxHeartbeats 4000000 in
set_option maxRecDepth 100000 in
theorem c_Model_read_y (l : Launch) (D : va_G) (k : Nat → ClassId) (q : Nat → Nat) (wk : Nat → Int8) (dk : Nat → Int8) (lg : Nat → Int8) (dt : Nat → Bool) (lo : Nat → Bool) (mk : Bool) (la : Nat) (lf : Int32) (sh : Nat) (b p : Nat) (hb24 : b < 24) (hp16 : p < 16) : Ci l D (tyK k) y_Model_read k_Model_read ({ frames := 2, cells := 0, slots := 0, locals := 43 }) [.ref (q 7), .int (nI b), .int (nI p)] (mW k q wk dk lg dt lo false mk la lf sh) ((wk (16 * b + p)).toInt32 &&& nI 255) (mW k q wk dk lg dt lo false mk la lf sh) := by
  refine open_i (by decide) (Nat.le_of_ble_eq_true rfl) ?_
  intro pg ev s m below meth c A hx hb hml hr hlocks htw hown hnm hA hS hP hK hD hN ls hl
  have hown : s.vm.findClass R_Model = some m.cls := hown
  have hl : lv_has ls 3 [(0, .ref (q 7)), (1, .int (nI b)), (2, .int (nI p))] := hl
  refine lv_aload_n hx hb d_Model_read_0 rfl (lv_at hl 0 rfl) ?_
  refine va_get (D := D) (ci := 2) (v := .int (bI false)) (C := R_Model) (T := F_Model) (N := 10) hx hb htw i_Model hown hK hP 0 rfl rfl 5 (by decide) (htw _ tw_157) (fun _ h9 => h9) rfl d_Model_read_1 ?_
  refine my_ifne (tgt := 15) hx hb d_Model_read_4 (by decide) (fun c => absurd c (by decide)) (fun _ => ?_)
  refine lv_iload_n hx hb d_Model_read_7 rfl (lv_at hl 1 rfl) ?_
  refine lv_iload_n hx hb d_Model_read_8 rfl (lv_at hl 2 rfl) ?_
  refine call_Si (n := 2) (As := [.int (nI b), .int (nI p)]) (ws' := mW k q wk dk lg dt lo false mk la lf sh) ⟨hx, hb, hml, hown, htw⟩ (c_Model_isPlace_y l D k b p hb24 hp16) (in_S tw_187 tw_188 tw_11 tw_189) (by decide +kernel) ⟨rfl, rfl, Nat.le_of_ble_eq_true rfl, Nat.le_of_ble_eq_true rfl⟩ hK hN hP hD hS hA [] [0, 1, 2, 3, 4, 5] [0, 1, 2, 3, 4, 5] rfl rfl ([oM q false mk la lf sh, aB k (q 8) wk, aB k (q 9) dk, aB k (q 10) lg, aZ k (q 11) dt, aZ k (q 12) lo]) rfl rfl (by decide) rfl rfl hl.1 rfl rfl (Nat.le_of_ble_eq_true rfl) d_Model_read_9 ⟨Nat.zero_le _, Nat.zero_le _⟩ (fun H locs hP hD hS => ?_)
  refine my_ifne (tgt := 19) hx hb d_Model_read_12 (by decide) (fun _ => ?_) (fun c => absurd c (by decide))
  refine lv_aload_n hx hb d_Model_read_19 rfl (lv_at hl 0 rfl) ?_
  refine va_get (D := D) (ci := 2) (v := .ref (q 8)) (C := R_Model) (T := F_Model) (N := 10) hx hb htw i_Model hown hK hP 0 rfl rfl 0 (by decide) (htw _ tw_152) (fun _ h9 => h9) rfl d_Model_read_20 ?_
  refine lv_bipush (v := (nI 16)) hx hb d_Model_read_23 (by decide) ?_
  refine lv_iload_n hx hb d_Model_read_25 rfl (lv_at hl 1 rfl) ?_
  refine my_imul hx hb (x := 16) (y := b) d_Model_read_26 ?_
  refine lv_iload_n hx hb d_Model_read_27 rfl (lv_at hl 2 rfl) ?_
  refine my_iadd hx hb (x := 16 * b) (y := p) d_Model_read_28 ?_
  refine my_bald hx hb hK hP 1 0 rfl rfl (i := (16 * b) + p) (by omega) (by decide) d_Model_read_29 ?_
  refine lv_sipush (v := (nI 255)) hx hb d_Model_read_30 (by decide) ?_
  refine lv_iand hx hb d_Model_read_33 ?_
  exact ret_i hx hb hr hlocks hK hP hD hS rfl d_Model_read_34
set_option maxHeartbeats 4000000 in
set_option maxRecDepth 100000 in
theorem c_Model_disk_n (l : Launch) (D : va_G) (k : Nat → ClassId) (q : Nat → Nat) (wk : Nat → Int8) (dk : Nat → Int8) (lg : Nat → Int8) (dt : Nat → Bool) (lo : Nat → Bool) (off : Bool) (mk : Bool) (la : Nat) (lf : Int32) (sh : Nat) (b p : Int32) (hno : ¬ isP b p) : Ci l D (tyK k) y_Model_disk k_Model_disk ({ frames := 2, cells := 0, slots := 0, locals := 43 }) [.ref (q 7), .int b, .int p] (mW k q wk dk lg dt lo off mk la lf sh) (-1) (mW k q wk dk lg dt lo off mk la lf sh) := by
  refine open_i (by decide) (Nat.le_of_ble_eq_true rfl) ?_
  intro pg ev s m below meth c A hx hb hml hr hlocks htw hown hnm hA hS hP hK hD hN ls hl
  have hown : s.vm.findClass R_Model = some m.cls := hown
  have hl : lv_has ls 3 [(0, .ref (q 7)), (1, .int b), (2, .int p)] := hl
  refine lv_iload_n hx hb d_Model_disk_0 rfl (lv_at hl 1 rfl) ?_
  refine lv_iload_n hx hb d_Model_disk_1 rfl (lv_at hl 2 rfl) ?_
  refine call_Si (n := 2) (As := [.int b, .int p]) (ws' := mW k q wk dk lg dt lo off mk la lf sh) ⟨hx, hb, hml, hown, htw⟩ (c_Model_isPlace_n l D k b p hno) (in_S tw_187 tw_188 tw_11 tw_189) (by decide +kernel) ⟨rfl, rfl, Nat.le_of_ble_eq_true rfl, Nat.le_of_ble_eq_true rfl⟩ hK hN hP hD hS hA [] [0, 1, 2, 3, 4, 5] [0, 1, 2, 3, 4, 5] rfl rfl ([oM q off mk la lf sh, aB k (q 8) wk, aB k (q 9) dk, aB k (q 10) lg, aZ k (q 11) dt, aZ k (q 12) lo]) rfl rfl (by decide) rfl rfl hl.1 rfl rfl (Nat.le_of_ble_eq_true rfl) d_Model_disk_2 ⟨Nat.zero_le _, Nat.zero_le _⟩ (fun H locs hP hD hS => ?_)
  refine my_ifeq (tgt := 26) hx hb d_Model_disk_5 (by decide) (fun _ => ?_) (fun c => absurd c (by decide))
  refine lv_iconst (v := -1) hx hb d_Model_disk_26 (by decide) ?_
  exact ret_i hx hb hr hlocks hK hP hD hS rfl d_Model_disk_27
set_option maxHeartbeats 4000000 in
set_option maxRecDepth 100000 in
theorem c_Model_disk_y (l : Launch) (D : va_G) (k : Nat → ClassId) (q : Nat → Nat) (wk : Nat → Int8) (dk : Nat → Int8) (lg : Nat → Int8) (dt : Nat → Bool) (lo : Nat → Bool) (off : Bool) (mk : Bool) (la : Nat) (lf : Int32) (sh : Nat) (b p : Nat) (hb24 : b < 24) (hp16 : p < 16) : Ci l D (tyK k) y_Model_disk k_Model_disk ({ frames := 2, cells := 0, slots := 0, locals := 43 }) [.ref (q 7), .int (nI b), .int (nI p)] (mW k q wk dk lg dt lo off mk la lf sh) ((dk (16 * b + p)).toInt32 &&& nI 255) (mW k q wk dk lg dt lo off mk la lf sh) := by
  refine open_i (by decide) (Nat.le_of_ble_eq_true rfl) ?_
  intro pg ev s m below meth c A hx hb hml hr hlocks htw hown hnm hA hS hP hK hD hN ls hl
  have hown : s.vm.findClass R_Model = some m.cls := hown
  have hl : lv_has ls 3 [(0, .ref (q 7)), (1, .int (nI b)), (2, .int (nI p))] := hl
  refine lv_iload_n hx hb d_Model_disk_0 rfl (lv_at hl 1 rfl) ?_
  refine lv_iload_n hx hb d_Model_disk_1 rfl (lv_at hl 2 rfl) ?_
  refine call_Si (n := 2) (As := [.int (nI b), .int (nI p)]) (ws' := mW k q wk dk lg dt lo off mk la lf sh) ⟨hx, hb, hml, hown, htw⟩ (c_Model_isPlace_y l D k b p hb24 hp16) (in_S tw_187 tw_188 tw_11 tw_189) (by decide +kernel) ⟨rfl, rfl, Nat.le_of_ble_eq_true rfl, Nat.le_of_ble_eq_true rfl⟩ hK hN hP hD hS hA [] [0, 1, 2, 3, 4, 5] [0, 1, 2, 3, 4, 5] rfl rfl ([oM q off mk la lf sh, aB k (q 8) wk, aB k (q 9) dk, aB k (q 10) lg, aZ k (q 11) dt, aZ k (q 12) lo]) rfl rfl (by decide) rfl rfl hl.1 rfl rfl (Nat.le_of_ble_eq_true rfl) d_Model_disk_2 ⟨Nat.zero_le _, Nat.zero_le _⟩ (fun H locs hP hD hS => ?_)
  refine my_ifeq (tgt := 26) hx hb d_Model_disk_5 (by decide) (fun c => absurd c (by decide)) (fun _ => ?_)
  refine lv_aload_n hx hb d_Model_disk_8 rfl (lv_at hl 0 rfl) ?_
  refine va_get (D := D) (ci := 2) (v := .ref (q 9)) (C := R_Model) (T := F_Model) (N := 10) hx hb htw i_Model hown hK hP 0 rfl rfl 1 (by decide) (htw _ tw_153) (fun _ h9 => h9) rfl d_Model_disk_9 ?_
  refine lv_bipush (v := (nI 16)) hx hb d_Model_disk_12 (by decide) ?_
  refine lv_iload_n hx hb d_Model_disk_14 rfl (lv_at hl 1 rfl) ?_
  refine my_imul hx hb (x := 16) (y := b) d_Model_disk_15 ?_
  refine lv_iload_n hx hb d_Model_disk_16 rfl (lv_at hl 2 rfl) ?_
  refine my_iadd hx hb (x := 16 * b) (y := p) d_Model_disk_17 ?_
  refine my_bald hx hb hK hP 2 0 rfl rfl (i := (16 * b) + p) (by omega) (by decide) d_Model_disk_18 ?_
  refine lv_sipush (v := (nI 255)) hx hb d_Model_disk_19 (by decide) ?_
  refine lv_iand hx hb d_Model_disk_22 ?_
  refine lv_goto (tgt := 27) hx hb d_Model_disk_23 (by decide) ?_
  exact ret_i hx hb hr hlocks hK hP hD hS rfl d_Model_disk_27
set_option maxHeartbeats 4000000 in
set_option maxRecDepth 100000 in
theorem c_Model_dirty_off (l : Launch) (D : va_G) (k : Nat → ClassId) (q : Nat → Nat) (wk : Nat → Int8) (dk : Nat → Int8) (lg : Nat → Int8) (dt : Nat → Bool) (lo : Nat → Bool) (mk : Bool) (la : Nat) (lf : Int32) (sh : Nat) (b : Int32) : Ci l D (tyK k) y_Model_dirty k_Model_dirty ({ frames := 1, cells := 0, slots := 0, locals := 22 }) [.ref (q 7), .int b] (mW k q wk dk lg dt lo true mk la lf sh) (bI false) (mW k q wk dk lg dt lo true mk la lf sh) := by
  refine open_i (by decide) (Nat.le_of_ble_eq_true rfl) ?_
  intro pg ev s m below meth c A hx hb hml hr hlocks htw hown hnm hA hS hP hK hD hN ls hl
  have hown : s.vm.findClass R_Model = some m.cls := hown
  have hl : lv_has ls 2 [(0, .ref (q 7)), (1, .int b)] := hl
  refine lv_aload_n hx hb d_Model_dirty_0 rfl (lv_at hl 0 rfl) ?_
  refine va_get (D := D) (ci := 2) (v := .int (bI true)) (C := R_Model) (T := F_Model) (N := 10) hx hb htw i_Model hown hK hP 0 rfl rfl 5 (by decide) (htw _ tw_157) (fun _ h9 => h9) rfl d_Model_dirty_1 ?_
  refine my_ifne (tgt := 30) hx hb d_Model_dirty_4 (by decide) (fun _ => ?_) (fun c => absurd c (by decide))
  refine lv_iconst (v := (nI 0)) hx hb d_Model_dirty_30 (by decide) ?_
  refine lv_as (y := (bI false)) rfl ?_
  exact ret_z hx hb hr hlocks hK hP hD hS (v := false) rfl d_Model_dirty_31
set_option maxHeartbeats 4000000 in
set_option maxRecDepth 100000 in
theorem c_Model_dirty_n (l : Launch) (D : va_G) (k : Nat → ClassId) (q : Nat → Nat) (wk : Nat → Int8) (dk : Nat → Int8) (lg : Nat → Int8) (dt : Nat → Bool) (lo : Nat → Bool) (mk : Bool) (la : Nat) (lf : Int32) (sh : Nat) (b : Int32) (hno : ¬ blP b) : Ci l D (tyK k) y_Model_dirty k_Model_dirty ({ frames := 1, cells := 0, slots := 0, locals := 22 }) [.ref (q 7), .int b] (mW k q wk dk lg dt lo false mk la lf sh) (bI false) (mW k q wk dk lg dt lo false mk la lf sh) := by
  refine open_i (by decide) (Nat.le_of_ble_eq_true rfl) ?_
  intro pg ev s m below meth c A hx hb hml hr hlocks htw hown hnm hA hS hP hK hD hN ls hl
  have hown : s.vm.findClass R_Model = some m.cls := hown
  have hl : lv_has ls 2 [(0, .ref (q 7)), (1, .int b)] := hl
  refine lv_aload_n hx hb d_Model_dirty_0 rfl (lv_at hl 0 rfl) ?_
  refine va_get (D := D) (ci := 2) (v := .int (bI false)) (C := R_Model) (T := F_Model) (N := 10) hx hb htw i_Model hown hK hP 0 rfl rfl 5 (by decide) (htw _ tw_157) (fun _ h9 => h9) rfl d_Model_dirty_1 ?_
  refine my_ifne (tgt := 30) hx hb d_Model_dirty_4 (by decide) (fun c => absurd c (by decide)) (fun _ => ?_)
  refine lv_iload_n hx hb d_Model_dirty_7 rfl (lv_at hl 1 rfl) ?_
  refine lv_iconst (v := (nI 0)) hx hb d_Model_dirty_8 (by decide) ?_
  refine lv_bipush (v := (nI 23)) hx hb d_Model_dirty_9 (by decide) ?_
  refine call_Si (n := 3) (As := [.int b, .int (nI 0), .int (nI 23)]) (ws' := mW k q wk dk lg dt lo false mk la lf sh) ⟨hx, hb, hml, hown, htw⟩ (c_Model_in_n l D k b (nI 0) (nI 23) (blN hno)) (in_S tw_190 tw_191 tw_11 tw_192) (by decide +kernel) ⟨rfl, rfl, Nat.le_of_ble_eq_true rfl, Nat.le_of_ble_eq_true rfl⟩ hK hN hP hD hS hA [] [0, 1, 2, 3, 4, 5] [0, 1, 2, 3, 4, 5] rfl rfl ([oM q false mk la lf sh, aB k (q 8) wk, aB k (q 9) dk, aB k (q 10) lg, aZ k (q 11) dt, aZ k (q 12) lo]) rfl rfl (by decide) rfl rfl hl.1 rfl rfl (Nat.le_of_ble_eq_true rfl) d_Model_dirty_11 ⟨Nat.zero_le _, Nat.zero_le _⟩ (fun H locs hP hD hS => ?_)
  refine my_ifeq (tgt := 30) hx hb d_Model_dirty_14 (by decide) (fun _ => ?_) (fun c => absurd c (by decide))
  refine lv_iconst (v := (nI 0)) hx hb d_Model_dirty_30 (by decide) ?_
  refine lv_as (y := (bI false)) rfl ?_
  exact ret_z hx hb hr hlocks hK hP hD hS (v := false) rfl d_Model_dirty_31
set_option maxHeartbeats 4000000 in
set_option maxRecDepth 100000 in
theorem c_Model_dirty_y (l : Launch) (D : va_G) (k : Nat → ClassId) (q : Nat → Nat) (wk : Nat → Int8) (dk : Nat → Int8) (lg : Nat → Int8) (dt : Nat → Bool) (lo : Nat → Bool) (mk : Bool) (la : Nat) (lf : Int32) (sh : Nat) (b : Nat) (hb24 : b < 24) : Ci l D (tyK k) y_Model_dirty k_Model_dirty ({ frames := 1, cells := 0, slots := 0, locals := 22 }) [.ref (q 7), .int (nI b)] (mW k q wk dk lg dt lo false mk la lf sh) (bI (dt b)) (mW k q wk dk lg dt lo false mk la lf sh) := by
  refine open_i (by decide) (Nat.le_of_ble_eq_true rfl) ?_
  intro pg ev s m below meth c A hx hb hml hr hlocks htw hown hnm hA hS hP hK hD hN ls hl
  have hown : s.vm.findClass R_Model = some m.cls := hown
  have hl : lv_has ls 2 [(0, .ref (q 7)), (1, .int (nI b))] := hl
  refine lv_aload_n hx hb d_Model_dirty_0 rfl (lv_at hl 0 rfl) ?_
  refine va_get (D := D) (ci := 2) (v := .int (bI false)) (C := R_Model) (T := F_Model) (N := 10) hx hb htw i_Model hown hK hP 0 rfl rfl 5 (by decide) (htw _ tw_157) (fun _ h9 => h9) rfl d_Model_dirty_1 ?_
  refine my_ifne (tgt := 30) hx hb d_Model_dirty_4 (by decide) (fun c => absurd c (by decide)) (fun _ => ?_)
  refine lv_iload_n hx hb d_Model_dirty_7 rfl (lv_at hl 1 rfl) ?_
  refine lv_iconst (v := (nI 0)) hx hb d_Model_dirty_8 (by decide) ?_
  refine lv_bipush (v := (nI 23)) hx hb d_Model_dirty_9 (by decide) ?_
  refine call_Si (n := 3) (As := [.int (nI b), .int (nI 0), .int (nI 23)]) (ws' := mW k q wk dk lg dt lo false mk la lf sh) ⟨hx, hb, hml, hown, htw⟩ (c_Model_in_y l D k (nI b) (nI 0) (nI 23) (nI_nlt (show 0 ≤ b by omega) (by omega)) (nI_nlt (show b ≤ 23 by omega) (by decide))) (in_S tw_190 tw_191 tw_11 tw_192) (by decide +kernel) ⟨rfl, rfl, Nat.le_of_ble_eq_true rfl, Nat.le_of_ble_eq_true rfl⟩ hK hN hP hD hS hA [] [0, 1, 2, 3, 4, 5] [0, 1, 2, 3, 4, 5] rfl rfl ([oM q false mk la lf sh, aB k (q 8) wk, aB k (q 9) dk, aB k (q 10) lg, aZ k (q 11) dt, aZ k (q 12) lo]) rfl rfl (by decide) rfl rfl hl.1 rfl rfl (Nat.le_of_ble_eq_true rfl) d_Model_dirty_11 ⟨Nat.zero_le _, Nat.zero_le _⟩ (fun H locs hP hD hS => ?_)
  refine my_ifeq (tgt := 30) hx hb d_Model_dirty_14 (by decide) (fun c => absurd c (by decide)) (fun _ => ?_)
  refine lv_aload_n hx hb d_Model_dirty_17 rfl (lv_at hl 0 rfl) ?_
  refine va_get (D := D) (ci := 2) (v := .ref (q 11)) (C := R_Model) (T := F_Model) (N := 10) hx hb htw i_Model hown hK hP 0 rfl rfl 3 (by decide) (htw _ tw_155) (fun _ h9 => h9) rfl d_Model_dirty_18 ?_
  refine lv_iload_n hx hb d_Model_dirty_21 rfl (lv_at hl 1 rfl) ?_
  refine my_zald hx hb hK hP 4 1 rfl rfl (i := b) (by omega) (by decide) d_Model_dirty_22 ?_
  refine my_ifeq (tgt := 30) hx hb d_Model_dirty_23 (by decide) (fun c_23 => ?_) (fun c_23 => ?_)
  · refine lv_iconst (v := (nI 0)) hx hb d_Model_dirty_30 (by decide) ?_
    refine lv_as (y := (bI false)) rfl ?_
    exact ret_z hx hb hr hlocks hK hP hD hS (v := false) (congrArg bI c_23.symm) d_Model_dirty_31
  · refine lv_iconst (v := (nI 1)) hx hb d_Model_dirty_26 (by decide) ?_
    refine lv_goto (tgt := 31) hx hb d_Model_dirty_27 (by decide) ?_
    refine lv_as (y := (bI true)) rfl ?_
    exact ret_z hx hb hr hlocks hK hP hD hS (v := true) (congrArg bI c_23.symm) d_Model_dirty_31
set_option maxHeartbeats 4000000 in
set_option maxRecDepth 100000 in
theorem c_Model_copy (l : Launch) (D : va_G) (k : Nat → ClassId) (x y : Nat) (f g : Nat → Int8) (b : Nat) (hb24 : b < 24) : Cv l D (tyK k) y_Model_copy k_Model_copy ({ frames := 0, cells := 0, slots := 0, locals := 0 }) [.ref x, .ref y, .int (nI b)] ([aB k x f, aB k y g]) ([aB k x f, aB k y (va_cpy f g (16 * b) (16 * b) 16)]) := by
  refine open_v (by decide) (Nat.le_of_ble_eq_true rfl) ?_
  intro pg ev s m below meth c A hx hb hml hr hlocks htw hown hnm hA hS hP hK hD hN ls hl
  have hown : s.vm.findClass R_Model = some m.cls := hown
  have hl : lv_has ls 4 [(0, .ref x), (1, .ref y), (2, .int (nI b))] := hl
  refine lv_bipush (v := (nI 16)) hx hb d_Model_copy_0 (by decide) ?_
  refine lv_iload_n hx hb d_Model_copy_2 rfl (lv_at hl 2 rfl) ?_
  refine my_imul hx hb (x := 16) (y := b) d_Model_copy_3 ?_
  refine lv_istore_n (lv' := [(3, .int (nI (16 * b))), (0, .ref x), (1, .ref y), (2, .int (nI b))]) hx hb d_Model_copy_4 rfl hl (by decide) rfl (fun ls hl => ?_)
  have hP : va_P D classes ([aB k x f, aB k y (va_cpy f g (16 * b) (16 * b) 0)]) s.heap := by rw [cpy_0]; exact hP
  have hD : va_D A ([aB k x f, aB k y (va_cpy f g (16 * b) (16 * b) 0)]) := by rw [cpy_0]; exact hD
  have hl := lv_sub hl [1, 2, 3, 0] rfl
  refine loopW (nL := 4) (D := D) (A := A) (16) (fun i => [aB k x f, aB k y (va_cpy f g (16 * b) (16 * b) i)]) (fun i => [(0, .ref x), (1, .ref y), (2, .int (nI b)), (3, .int (nI (16 * b + i)))]) ?_ ?_ 0 (Nat.zero_le _) _ _ _ hP hD hS hl
  · intro i hlt ih H locs ls hP hD hS hl
    have hP : va_P D classes ([aB k x f, aB k y (va_cpy f g (16 * b) (16 * b) i)]) H := hP
    have hD : va_D A ([aB k x f, aB k y (va_cpy f g (16 * b) (16 * b) i)]) := hD
    have hl : lv_has ls 4 [(0, .ref x), (1, .ref y), (2, .int (nI b)), (3, .int (nI (16 * b + i)))] := hl
    refine lv_iload_n hx hb d_Model_copy_5 rfl (lv_at hl 3 rfl) ?_
    refine lv_bipush (v := (nI 16)) hx hb d_Model_copy_6 (by decide) ?_
    refine lv_iload_n hx hb d_Model_copy_8 rfl (lv_at hl 2 rfl) ?_
    refine my_imul hx hb (x := 16) (y := b) d_Model_copy_9 ?_
    refine lv_bipush (v := (nI 16)) hx hb d_Model_copy_10 (by decide) ?_
    refine my_iadd hx hb (x := 16 * b) (y := 16) d_Model_copy_12 ?_
    refine my_icmpge (tgt := 28) hx hb (x := 16 * b + i) (y := (16 * b) + 16) (by omega) (by omega) d_Model_copy_13 (by decide) (fun c_13 => absurd c_13 (by omega)) (fun c_13 => ?_)
    refine lv_aload_n hx hb d_Model_copy_16 rfl (lv_at hl 1 rfl) ?_
    refine lv_iload_n hx hb d_Model_copy_17 rfl (lv_at hl 3 rfl) ?_
    refine lv_aload_n hx hb d_Model_copy_18 rfl (lv_at hl 0 rfl) ?_
    refine lv_iload_n hx hb d_Model_copy_19 rfl (lv_at hl 3 rfl) ?_
    refine my_bald hx hb hK hP 0 0 rfl rfl (i := 16 * b + i) (by omega) (by decide) d_Model_copy_20 ?_
    refine my_bast hx hb hK hP hD hS 1 0 rfl rfl (i := 16 * b + i) (v := f (16 * b + i)) (by omega) (by decide) d_Model_copy_21 (fun H locs hP hD hS => ?_)
    have hP : va_P D classes ([aB k x f, aB k y (va_up (va_cpy f g (16 * b) (16 * b) i) (16 * b + i) (f (16 * b + i)))]) H := hP
    have hD : va_D A ([aB k x f, aB k y (va_up (va_cpy f g (16 * b) (16 * b) i) (16 * b + i) (f (16 * b + i)))]) := hD
    rw [cpy_s] at hP hD
    refine lv_iinc (v := (nI (16 * b + i + 1))) (lv' := [(3, .int (nI (16 * b + i + 1))), (0, .ref x), (1, .ref y), (2, .int (nI b))]) hx hb d_Model_copy_22 hl (k := 3) rfl (nI_add _ 1) (by decide) rfl (fun ls hl => ?_)
    refine lv_goto (tgt := 5) hx hb d_Model_copy_25 (by decide) ?_
    exact ih _ _ _ hP hD hS (lv_sub hl [1, 2, 3, 0] rfl)
  · intro H locs ls hP hD hS hl
    have hP : va_P D classes ([aB k x f, aB k y (va_cpy f g (16 * b) (16 * b) 16)]) H := hP
    have hD : va_D A ([aB k x f, aB k y (va_cpy f g (16 * b) (16 * b) 16)]) := hD
    have hl : lv_has ls 4 [(0, .ref x), (1, .ref y), (2, .int (nI b)), (3, .int (nI (16 * b + 16)))] := hl
    refine lv_iload_n hx hb d_Model_copy_5 rfl (lv_at hl 3 rfl) ?_
    refine lv_bipush (v := (nI 16)) hx hb d_Model_copy_6 (by decide) ?_
    refine lv_iload_n hx hb d_Model_copy_8 rfl (lv_at hl 2 rfl) ?_
    refine my_imul hx hb (x := 16) (y := b) d_Model_copy_9 ?_
    refine lv_bipush (v := (nI 16)) hx hb d_Model_copy_10 (by decide) ?_
    refine my_iadd hx hb (x := 16 * b) (y := 16) d_Model_copy_12 ?_
    refine my_icmpge (tgt := 28) hx hb (x := 16 * b + 16) (y := (16 * b) + 16) (by omega) (by omega) d_Model_copy_13 (by decide) (fun c_13 => ?_) (fun c_13 => absurd c_13 (by omega))
    exact ret_v hx hb hr hlocks hK hP hD hS d_Model_copy_28
set_option maxHeartbeats 4000000 in
set_option maxRecDepth 100000 in
theorem c_Model_many (l : Launch) (D : va_G) (k : Nat → ClassId) (q : Nat → Nat) (wk : Nat → Int8) (dk : Nat → Int8) (lg : Nat → Int8) (dt : Nat → Bool) (lo : Nat → Bool) (off : Bool) (mk : Bool) (la : Nat) (lf : Int32) (sh : Nat) : Ci l D (tyK k) y_Model_many k_Model_many ({ frames := 0, cells := 0, slots := 0, locals := 0 }) [.ref (q 7)] (mW k q wk dk lg dt lo off mk la lf sh) (nI (cnt dt 24)) (mW k q wk dk lg dt lo off mk la lf sh) := by
  refine open_i (by decide) (Nat.le_of_ble_eq_true rfl) ?_
  intro pg ev s m below meth c A hx hb hml hr hlocks htw hown hnm hA hS hP hK hD hN ls hl
  have hown : s.vm.findClass R_Model = some m.cls := hown
  have hl : lv_has ls 3 [(0, .ref (q 7))] := hl
  refine lv_iconst (v := (nI 0)) hx hb d_Model_many_0 (by decide) ?_
  refine lv_istore_n (lv' := [(1, .int (nI 0)), (0, .ref (q 7))]) hx hb d_Model_many_1 rfl hl (by decide) rfl (fun ls hl => ?_)
  refine lv_iconst (v := (nI 0)) hx hb d_Model_many_2 (by decide) ?_
  refine lv_istore_n (lv' := [(2, .int (nI 0)), (1, .int (nI 0)), (0, .ref (q 7))]) hx hb d_Model_many_3 rfl hl (by decide) rfl (fun ls hl => ?_)
  have hl := lv_sub hl [2, 1, 0] rfl
  refine loopW (nL := 3) (D := D) (A := A) (24) (fun b => mW k q wk dk lg dt lo off mk la lf sh) (fun b => [(0, .ref (q 7)), (1, .int (nI (cnt dt b))), (2, .int (nI b))]) ?_ ?_ 0 (Nat.zero_le _) _ _ _ hP hD hS hl
  · intro b hlt ih H locs ls hP hD hS hl
    have hP : va_P D classes (mW k q wk dk lg dt lo off mk la lf sh) H := hP
    have hD : va_D A (mW k q wk dk lg dt lo off mk la lf sh) := hD
    have hl : lv_has ls 3 [(0, .ref (q 7)), (1, .int (nI (cnt dt b))), (2, .int (nI b))] := hl
    refine lv_iload_n hx hb d_Model_many_4 rfl (lv_at hl 2 rfl) ?_
    refine lv_bipush (v := (nI 24)) hx hb d_Model_many_5 (by decide) ?_
    refine my_icmpge (tgt := 33) hx hb (x := b) (y := 24) (by omega) (by omega) d_Model_many_7 (by decide) (fun c_7 => absurd c_7 (by omega)) (fun c_7 => ?_)
    refine lv_iload_n hx hb d_Model_many_10 rfl (lv_at hl 1 rfl) ?_
    refine lv_aload_n hx hb d_Model_many_11 rfl (lv_at hl 0 rfl) ?_
    refine va_get (D := D) (ci := 2) (v := .ref (q 11)) (C := R_Model) (T := F_Model) (N := 10) hx hb htw i_Model hown hK hP 0 rfl rfl 3 (by decide) (htw _ tw_155) (fun _ h9 => h9) rfl d_Model_many_12 ?_
    refine lv_iload_n hx hb d_Model_many_15 rfl (lv_at hl 2 rfl) ?_
    refine my_zald hx hb hK hP 4 1 rfl rfl (i := b) (by omega) (by decide) d_Model_many_16 ?_
    refine my_ifeq (tgt := 24) hx hb d_Model_many_17 (by decide) (fun c_17 => ?_) (fun c_17 => ?_)
    · refine lv_iconst (v := (nI 0)) hx hb d_Model_many_24 (by decide) ?_
      refine my_iadd hx hb (x := cnt dt b) (y := 0) d_Model_many_25 ?_
      refine lv_as (y := nI (cnt dt (b + 1))) (congrArg nI (cnt_f c_17)) ?_
      refine lv_istore_n (lv' := [(1, .int (nI (cnt dt (b + 1)))), (0, .ref (q 7)), (2, .int (nI b))]) hx hb d_Model_many_26 rfl hl (by decide) rfl (fun ls hl => ?_)
      refine lv_iinc (v := (nI (b + 1))) (lv' := [(2, .int (nI (b + 1))), (1, .int (nI (cnt dt (b + 1)))), (0, .ref (q 7))]) hx hb d_Model_many_27 hl (k := 2) rfl (nI_add _ 1) (by decide) rfl (fun ls hl => ?_)
      refine lv_goto (tgt := 4) hx hb d_Model_many_30 (by decide) ?_
      exact ih _ _ _ hP hD hS (lv_sub hl [2, 1, 0] rfl)
    · refine lv_iconst (v := (nI 1)) hx hb d_Model_many_20 (by decide) ?_
      refine lv_goto (tgt := 25) hx hb d_Model_many_21 (by decide) ?_
      refine my_iadd hx hb (x := cnt dt b) (y := 1) d_Model_many_25 ?_
      refine lv_as (y := nI (cnt dt (b + 1))) (congrArg nI (cnt_t c_17)) ?_
      refine lv_istore_n (lv' := [(1, .int (nI (cnt dt (b + 1)))), (0, .ref (q 7)), (2, .int (nI b))]) hx hb d_Model_many_26 rfl hl (by decide) rfl (fun ls hl => ?_)
      refine lv_iinc (v := (nI (b + 1))) (lv' := [(2, .int (nI (b + 1))), (1, .int (nI (cnt dt (b + 1)))), (0, .ref (q 7))]) hx hb d_Model_many_27 hl (k := 2) rfl (nI_add _ 1) (by decide) rfl (fun ls hl => ?_)
      refine lv_goto (tgt := 4) hx hb d_Model_many_30 (by decide) ?_
      exact ih _ _ _ hP hD hS (lv_sub hl [2, 1, 0] rfl)
  · intro H locs ls hP hD hS hl
    have hP : va_P D classes (mW k q wk dk lg dt lo off mk la lf sh) H := hP
    have hD : va_D A (mW k q wk dk lg dt lo off mk la lf sh) := hD
    have hl : lv_has ls 3 [(0, .ref (q 7)), (1, .int (nI (cnt dt 24))), (2, .int (nI 24))] := hl
    refine lv_iload_n hx hb d_Model_many_4 rfl (lv_at hl 2 rfl) ?_
    refine lv_bipush (v := (nI 24)) hx hb d_Model_many_5 (by decide) ?_
    refine my_icmpge (tgt := 33) hx hb (x := 24) (y := 24) (by omega) (by omega) d_Model_many_7 (by decide) (fun c_7 => ?_) (fun c_7 => absurd c_7 (by omega))
    refine lv_iload_n hx hb d_Model_many_33 rfl (lv_at hl 1 rfl) ?_
    exact ret_i hx hb hr hlocks hK hP hD hS rfl d_Model_many_34
set_option maxHeartbeats 4000000 in
set_option maxRecDepth 100000 in
theorem c_Model_loggedMany (l : Launch) (D : va_G) (k : Nat → ClassId) (q : Nat → Nat) (wk : Nat → Int8) (dk : Nat → Int8) (lg : Nat → Int8) (dt : Nat → Bool) (lo : Nat → Bool) (off : Bool) (mk : Bool) (la : Nat) (lf : Int32) (sh : Nat) : Ci l D (tyK k) y_Model_loggedMany k_Model_loggedMany ({ frames := 0, cells := 0, slots := 0, locals := 0 }) [.ref (q 7)] (mW k q wk dk lg dt lo off mk la lf sh) (nI (cnt lo 24)) (mW k q wk dk lg dt lo off mk la lf sh) := by
  refine open_i (by decide) (Nat.le_of_ble_eq_true rfl) ?_
  intro pg ev s m below meth c A hx hb hml hr hlocks htw hown hnm hA hS hP hK hD hN ls hl
  have hown : s.vm.findClass R_Model = some m.cls := hown
  have hl : lv_has ls 3 [(0, .ref (q 7))] := hl
  refine lv_iconst (v := (nI 0)) hx hb d_Model_loggedMany_0 (by decide) ?_
  refine lv_istore_n (lv' := [(1, .int (nI 0)), (0, .ref (q 7))]) hx hb d_Model_loggedMany_1 rfl hl (by decide) rfl (fun ls hl => ?_)
  refine lv_iconst (v := (nI 0)) hx hb d_Model_loggedMany_2 (by decide) ?_
  refine lv_istore_n (lv' := [(2, .int (nI 0)), (1, .int (nI 0)), (0, .ref (q 7))]) hx hb d_Model_loggedMany_3 rfl hl (by decide) rfl (fun ls hl => ?_)
  have hl := lv_sub hl [2, 1, 0] rfl
  refine loopW (nL := 3) (D := D) (A := A) (24) (fun b => mW k q wk dk lg dt lo off mk la lf sh) (fun b => [(0, .ref (q 7)), (1, .int (nI (cnt lo b))), (2, .int (nI b))]) ?_ ?_ 0 (Nat.zero_le _) _ _ _ hP hD hS hl
  · intro b hlt ih H locs ls hP hD hS hl
    have hP : va_P D classes (mW k q wk dk lg dt lo off mk la lf sh) H := hP
    have hD : va_D A (mW k q wk dk lg dt lo off mk la lf sh) := hD
    have hl : lv_has ls 3 [(0, .ref (q 7)), (1, .int (nI (cnt lo b))), (2, .int (nI b))] := hl
    refine lv_iload_n hx hb d_Model_loggedMany_4 rfl (lv_at hl 2 rfl) ?_
    refine lv_bipush (v := (nI 24)) hx hb d_Model_loggedMany_5 (by decide) ?_
    refine my_icmpge (tgt := 33) hx hb (x := b) (y := 24) (by omega) (by omega) d_Model_loggedMany_7 (by decide) (fun c_7 => absurd c_7 (by omega)) (fun c_7 => ?_)
    refine lv_iload_n hx hb d_Model_loggedMany_10 rfl (lv_at hl 1 rfl) ?_
    refine lv_aload_n hx hb d_Model_loggedMany_11 rfl (lv_at hl 0 rfl) ?_
    refine va_get (D := D) (ci := 2) (v := .ref (q 12)) (C := R_Model) (T := F_Model) (N := 10) hx hb htw i_Model hown hK hP 0 rfl rfl 4 (by decide) (htw _ tw_156) (fun _ h9 => h9) rfl d_Model_loggedMany_12 ?_
    refine lv_iload_n hx hb d_Model_loggedMany_15 rfl (lv_at hl 2 rfl) ?_
    refine my_zald hx hb hK hP 5 1 rfl rfl (i := b) (by omega) (by decide) d_Model_loggedMany_16 ?_
    refine my_ifeq (tgt := 24) hx hb d_Model_loggedMany_17 (by decide) (fun c_17 => ?_) (fun c_17 => ?_)
    · refine lv_iconst (v := (nI 0)) hx hb d_Model_loggedMany_24 (by decide) ?_
      refine my_iadd hx hb (x := cnt lo b) (y := 0) d_Model_loggedMany_25 ?_
      refine lv_as (y := nI (cnt lo (b + 1))) (congrArg nI (cnt_f c_17)) ?_
      refine lv_istore_n (lv' := [(1, .int (nI (cnt lo (b + 1)))), (0, .ref (q 7)), (2, .int (nI b))]) hx hb d_Model_loggedMany_26 rfl hl (by decide) rfl (fun ls hl => ?_)
      refine lv_iinc (v := (nI (b + 1))) (lv' := [(2, .int (nI (b + 1))), (1, .int (nI (cnt lo (b + 1)))), (0, .ref (q 7))]) hx hb d_Model_loggedMany_27 hl (k := 2) rfl (nI_add _ 1) (by decide) rfl (fun ls hl => ?_)
      refine lv_goto (tgt := 4) hx hb d_Model_loggedMany_30 (by decide) ?_
      exact ih _ _ _ hP hD hS (lv_sub hl [2, 1, 0] rfl)
    · refine lv_iconst (v := (nI 1)) hx hb d_Model_loggedMany_20 (by decide) ?_
      refine lv_goto (tgt := 25) hx hb d_Model_loggedMany_21 (by decide) ?_
      refine my_iadd hx hb (x := cnt lo b) (y := 1) d_Model_loggedMany_25 ?_
      refine lv_as (y := nI (cnt lo (b + 1))) (congrArg nI (cnt_t c_17)) ?_
      refine lv_istore_n (lv' := [(1, .int (nI (cnt lo (b + 1)))), (0, .ref (q 7)), (2, .int (nI b))]) hx hb d_Model_loggedMany_26 rfl hl (by decide) rfl (fun ls hl => ?_)
      refine lv_iinc (v := (nI (b + 1))) (lv' := [(2, .int (nI (b + 1))), (1, .int (nI (cnt lo (b + 1)))), (0, .ref (q 7))]) hx hb d_Model_loggedMany_27 hl (k := 2) rfl (nI_add _ 1) (by decide) rfl (fun ls hl => ?_)
      refine lv_goto (tgt := 4) hx hb d_Model_loggedMany_30 (by decide) ?_
      exact ih _ _ _ hP hD hS (lv_sub hl [2, 1, 0] rfl)
  · intro H locs ls hP hD hS hl
    have hP : va_P D classes (mW k q wk dk lg dt lo off mk la lf sh) H := hP
    have hD : va_D A (mW k q wk dk lg dt lo off mk la lf sh) := hD
    have hl : lv_has ls 3 [(0, .ref (q 7)), (1, .int (nI (cnt lo 24))), (2, .int (nI 24))] := hl
    refine lv_iload_n hx hb d_Model_loggedMany_4 rfl (lv_at hl 2 rfl) ?_
    refine lv_bipush (v := (nI 24)) hx hb d_Model_loggedMany_5 (by decide) ?_
    refine my_icmpge (tgt := 33) hx hb (x := 24) (y := 24) (by omega) (by omega) d_Model_loggedMany_7 (by decide) (fun c_7 => ?_) (fun c_7 => absurd c_7 (by omega))
    refine lv_iload_n hx hb d_Model_loggedMany_33 rfl (lv_at hl 1 rfl) ?_
    exact ret_i hx hb hr hlocks hK hP hD hS rfl d_Model_loggedMany_34
set_option maxHeartbeats 4000000 in
set_option maxRecDepth 100000 in
theorem c_Model_note (l : Launch) (D : va_G) (k : Nat → ClassId) (q : Nat → Nat) (wk : Nat → Int8) (dk : Nat → Int8) (lg : Nat → Int8) (dt : Nat → Bool) (lo : Nat → Bool) (off : Bool) (mk : Bool) (la : Nat) (lf : Int32) (sh : Nat) : Cv l D (tyK k) y_Model_note k_Model_note ({ frames := 1, cells := 0, slots := 0, locals := 23 }) [.ref (q 7)] (mW k q wk dk lg dt lo off mk la lf sh) (mW k q wk dk (cpD 24 dt wk lg) dt (cpL 24 dt lo) off true la lf sh) := by
  refine open_v (by decide) (Nat.le_of_ble_eq_true rfl) ?_
  intro pg ev s m below meth c A hx hb hml hr hlocks htw hown hnm hA hS hP hK hD hN ls hl
  have hown : s.vm.findClass R_Model = some m.cls := hown
  have hl : lv_has ls 2 [(0, .ref (q 7))] := hl
  refine lv_iconst (v := (nI 0)) hx hb d_Model_note_0 (by decide) ?_
  refine lv_istore_n (lv' := [(1, .int (nI 0)), (0, .ref (q 7))]) hx hb d_Model_note_1 rfl hl (by decide) rfl (fun ls hl => ?_)
  have hP : va_P D classes (mW k q wk dk (cpD 0 dt wk lg) dt (cpL 0 dt lo) off mk la lf sh) s.heap := by rw [cpL_0, cpD_0]; exact hP
  have hD : va_D A (mW k q wk dk (cpD 0 dt wk lg) dt (cpL 0 dt lo) off mk la lf sh) := by rw [cpL_0, cpD_0]; exact hD
  have hl := lv_sub hl [1, 0] rfl
  refine loopW (nL := 2) (D := D) (A := A) (24) (fun b => mW k q wk dk (cpD b dt wk lg) dt (cpL b dt lo) off mk la lf sh) (fun b => [(0, .ref (q 7)), (1, .int (nI b))]) ?_ ?_ 0 (Nat.zero_le _) _ _ _ hP hD hS hl
  · intro b hlt ih H locs ls hP hD hS hl
    have hP : va_P D classes (mW k q wk dk (cpD b dt wk lg) dt (cpL b dt lo) off mk la lf sh) H := hP
    have hD : va_D A (mW k q wk dk (cpD b dt wk lg) dt (cpL b dt lo) off mk la lf sh) := hD
    have hl : lv_has ls 2 [(0, .ref (q 7)), (1, .int (nI b))] := hl
    refine lv_iload_n hx hb d_Model_note_2 rfl (lv_at hl 1 rfl) ?_
    refine lv_bipush (v := (nI 24)) hx hb d_Model_note_3 (by decide) ?_
    refine my_icmpge (tgt := 47) hx hb (x := b) (y := 24) (by omega) (by omega) d_Model_note_5 (by decide) (fun c_5 => absurd c_5 (by omega)) (fun c_5 => ?_)
    refine lv_aload_n hx hb d_Model_note_8 rfl (lv_at hl 0 rfl) ?_
    refine va_get (D := D) (ci := 2) (v := .ref (q 12)) (C := R_Model) (T := F_Model) (N := 10) hx hb htw i_Model hown hK hP 0 rfl rfl 4 (by decide) (htw _ tw_156) (fun _ h9 => h9) rfl d_Model_note_9 ?_
    refine lv_iload_n hx hb d_Model_note_12 rfl (lv_at hl 1 rfl) ?_
    refine lv_aload_n hx hb d_Model_note_13 rfl (lv_at hl 0 rfl) ?_
    refine va_get (D := D) (ci := 2) (v := .ref (q 11)) (C := R_Model) (T := F_Model) (N := 10) hx hb htw i_Model hown hK hP 0 rfl rfl 3 (by decide) (htw _ tw_155) (fun _ h9 => h9) rfl d_Model_note_14 ?_
    refine lv_iload_n hx hb d_Model_note_17 rfl (lv_at hl 1 rfl) ?_
    refine my_zald hx hb hK hP 4 1 rfl rfl (i := b) (by omega) (by decide) d_Model_note_18 ?_
    refine my_zast hx hb hK hP hD hS 5 1 rfl rfl (i := b) (v := dt b) (by omega) (by decide) d_Model_note_19 (fun H locs hP hD hS => ?_)
    have hP : va_P D classes (mW k q wk dk (cpD b dt wk lg) dt (va_up (cpL b dt lo) b (dt b)) off mk la lf sh) H := hP
    have hD : va_D A (mW k q wk dk (cpD b dt wk lg) dt (va_up (cpL b dt lo) b (dt b)) off mk la lf sh) := hD
    rw [cpL_s] at hP hD
    refine lv_aload_n hx hb d_Model_note_20 rfl (lv_at hl 0 rfl) ?_
    refine va_get (D := D) (ci := 2) (v := .ref (q 11)) (C := R_Model) (T := F_Model) (N := 10) hx hb htw i_Model hown hK hP 0 rfl rfl 3 (by decide) (htw _ tw_155) (fun _ h9 => h9) rfl d_Model_note_21 ?_
    refine lv_iload_n hx hb d_Model_note_24 rfl (lv_at hl 1 rfl) ?_
    refine my_zald hx hb hK hP 4 1 rfl rfl (i := b) (by omega) (by decide) d_Model_note_25 ?_
    refine my_ifeq (tgt := 41) hx hb d_Model_note_26 (by decide) (fun c_26 => ?_) (fun c_26 => ?_)
    · rw [cpD_f c_26] at hP hD
      refine lv_iinc (v := (nI (b + 1))) (lv' := [(1, .int (nI (b + 1))), (0, .ref (q 7))]) hx hb d_Model_note_41 hl (k := 1) rfl (nI_add _ 1) (by decide) rfl (fun ls hl => ?_)
      refine lv_goto (tgt := 2) hx hb d_Model_note_44 (by decide) ?_
      exact ih _ _ _ hP hD hS (lv_sub hl [1, 0] rfl)
    · refine lv_aload_n hx hb d_Model_note_29 rfl (lv_at hl 0 rfl) ?_
      refine va_get (D := D) (ci := 2) (v := .ref (q 8)) (C := R_Model) (T := F_Model) (N := 10) hx hb htw i_Model hown hK hP 0 rfl rfl 0 (by decide) (htw _ tw_152) (fun _ h9 => h9) rfl d_Model_note_30 ?_
      refine lv_aload_n hx hb d_Model_note_33 rfl (lv_at hl 0 rfl) ?_
      refine va_get (D := D) (ci := 2) (v := .ref (q 10)) (C := R_Model) (T := F_Model) (N := 10) hx hb htw i_Model hown hK hP 0 rfl rfl 2 (by decide) (htw _ tw_154) (fun _ h9 => h9) rfl d_Model_note_34 ?_
      refine lv_iload_n hx hb d_Model_note_37 rfl (lv_at hl 1 rfl) ?_
      refine call_Sv (n := 3) (As := [.ref (q 8), .ref (q 10), .int (nI b)]) (ws' := mW k q wk dk (va_cpy wk (cpD b dt wk lg) (16 * b) (16 * b) 16) dt (cpL (b + 1) dt lo) off mk la lf sh) ⟨hx, hb, hml, hown, htw⟩ (c_Model_copy l D k (q 8) (q 10) wk (cpD b dt wk lg) b hlt) (in_S tw_217 tw_218 tw_11 tw_219) (by decide +kernel) ⟨rfl, rfl, Nat.le_of_ble_eq_true rfl, Nat.le_of_ble_eq_true rfl⟩ hK hN hP hD hS hA [1, 3] [0, 2, 4, 5] [0, 4, 1, 5, 2, 3] rfl rfl ([oM q off mk la lf sh, aB k (q 9) dk, aZ k (q 11) dt, aZ k (q 12) (cpL (b + 1) dt lo)]) rfl rfl (by decide) rfl rfl hl.1 rfl rfl (Nat.le_of_ble_eq_true rfl) d_Model_note_38 ⟨Nat.zero_le _, Nat.zero_le _⟩ (fun H locs hP hD hS => ?_)
      rw [cpD_t c_26] at hP hD
      refine lv_iinc (v := (nI (b + 1))) (lv' := [(1, .int (nI (b + 1))), (0, .ref (q 7))]) hx hb d_Model_note_41 hl (k := 1) rfl (nI_add _ 1) (by decide) rfl (fun ls hl => ?_)
      refine lv_goto (tgt := 2) hx hb d_Model_note_44 (by decide) ?_
      exact ih _ _ _ hP hD hS (lv_sub hl [1, 0] rfl)
  · intro H locs ls hP hD hS hl
    have hP : va_P D classes (mW k q wk dk (cpD 24 dt wk lg) dt (cpL 24 dt lo) off mk la lf sh) H := hP
    have hD : va_D A (mW k q wk dk (cpD 24 dt wk lg) dt (cpL 24 dt lo) off mk la lf sh) := hD
    have hl : lv_has ls 2 [(0, .ref (q 7)), (1, .int (nI 24))] := hl
    refine lv_iload_n hx hb d_Model_note_2 rfl (lv_at hl 1 rfl) ?_
    refine lv_bipush (v := (nI 24)) hx hb d_Model_note_3 (by decide) ?_
    refine my_icmpge (tgt := 47) hx hb (x := 24) (y := 24) (by omega) (by omega) d_Model_note_5 (by decide) (fun c_5 => ?_) (fun c_5 => absurd c_5 (by omega))
    refine lv_aload_n hx hb d_Model_note_47 rfl (lv_at hl 0 rfl) ?_
    refine lv_iconst (v := (nI 1)) hx hb d_Model_note_48 (by decide) ?_
    refine lv_as (y := (bI true)) rfl ?_
    refine va_put (D := D) (ci := 2) (v := .int (bI true)) (ty := .boolean) (C := R_Model) (T := F_Model) (N := 10) hx hb htw i_Model t_Model t_Model_ok n_Model hown hK hP hD hS 0 rfl rfl 6 (by decide) (htw _ tw_158) (fun _ h9 => h9) rfl (by decide +kernel) (bI_nar _) (bI_fit _) (Nat.le_of_ble_eq_true rfl) d_Model_note_49 (fun H locs hP hD hS => ?_)
    have hP : va_P D classes (mW k q wk dk (cpD 24 dt wk lg) dt (cpL 24 dt lo) off true la lf sh) H := hP
    have hD : va_D A (mW k q wk dk (cpD 24 dt wk lg) dt (cpL 24 dt lo) off true la lf sh) := hD
    exact ret_v hx hb hr hlocks hK hP hD hS d_Model_note_52
set_option maxHeartbeats 4000000 in
set_option maxRecDepth 100000 in
theorem c_Model_lay (l : Launch) (D : va_G) (k : Nat → ClassId) (q : Nat → Nat) (wk : Nat → Int8) (dk : Nat → Int8) (lg : Nat → Int8) (dt : Nat → Bool) (lo : Nat → Bool) (off : Bool) (mk : Bool) (la : Nat) (lf : Int32) (sh : Nat) (n : Nat) (hn : n ≤ 24) : Cv l D (tyK k) y_Model_lay k_Model_lay ({ frames := 1, cells := 0, slots := 0, locals := 23 }) [.ref (q 7), .int (nI n)] (mW k q wk dk lg dt lo off mk la lf sh) (mW k q wk (layN 24 lo n lg dk) lg dt lo off mk la lf sh) := by
  refine open_v (by decide) (Nat.le_of_ble_eq_true rfl) ?_
  intro pg ev s m below meth c A hx hb hml hr hlocks htw hown hnm hA hS hP hK hD hN ls hl
  have hown : s.vm.findClass R_Model = some m.cls := hown
  have hl : lv_has ls 4 [(0, .ref (q 7)), (1, .int (nI n))] := hl
  refine lv_iconst (v := (nI 0)) hx hb d_Model_lay_0 (by decide) ?_
  refine lv_istore_n (lv' := [(2, .int (nI 0)), (0, .ref (q 7)), (1, .int (nI n))]) hx hb d_Model_lay_1 rfl hl (by decide) rfl (fun ls hl => ?_)
  refine lv_iconst (v := (nI 0)) hx hb d_Model_lay_2 (by decide) ?_
  refine lv_istore_n (lv' := [(3, .int (nI 0)), (2, .int (nI 0)), (0, .ref (q 7)), (1, .int (nI n))]) hx hb d_Model_lay_3 rfl hl (by decide) rfl (fun ls hl => ?_)
  have hP : va_P D classes (mW k q wk (layN 0 lo n lg dk) lg dt lo off mk la lf sh) s.heap := by rw [layN_0]; exact hP
  have hD : va_D A (mW k q wk (layN 0 lo n lg dk) lg dt lo off mk la lf sh) := by rw [layN_0]; exact hD
  have hl := lv_sub hl [2, 3, 1, 0] rfl
  refine loopW (nL := 4) (D := D) (A := A) (24) (fun b => mW k q wk (layN b lo n lg dk) lg dt lo off mk la lf sh) (fun b => [(0, .ref (q 7)), (1, .int (nI n)), (2, .int (nI (cnt lo b))), (3, .int (nI b))]) ?_ ?_ 0 (Nat.zero_le _) _ _ _ hP hD hS hl
  · intro b hlt ih H locs ls hP hD hS hl
    have hP : va_P D classes (mW k q wk (layN b lo n lg dk) lg dt lo off mk la lf sh) H := hP
    have hD : va_D A (mW k q wk (layN b lo n lg dk) lg dt lo off mk la lf sh) := hD
    have hl : lv_has ls 4 [(0, .ref (q 7)), (1, .int (nI n)), (2, .int (nI (cnt lo b))), (3, .int (nI b))] := hl
    have hcb := cnt_le lo b
    refine lv_iload_n hx hb d_Model_lay_4 rfl (lv_at hl 3 rfl) ?_
    refine lv_bipush (v := (nI 24)) hx hb d_Model_lay_5 (by decide) ?_
    refine my_icmpge (tgt := 59) hx hb (x := b) (y := 24) (by omega) (by omega) d_Model_lay_7 (by decide) (fun c_7 => absurd c_7 (by omega)) (fun c_7 => ?_)
    refine lv_aload_n hx hb d_Model_lay_10 rfl (lv_at hl 0 rfl) ?_
    refine va_get (D := D) (ci := 2) (v := .ref (q 12)) (C := R_Model) (T := F_Model) (N := 10) hx hb htw i_Model hown hK hP 0 rfl rfl 4 (by decide) (htw _ tw_156) (fun _ h9 => h9) rfl d_Model_lay_11 ?_
    refine lv_iload_n hx hb d_Model_lay_14 rfl (lv_at hl 3 rfl) ?_
    refine my_zald hx hb hK hP 5 1 rfl rfl (i := b) (by omega) (by decide) d_Model_lay_15 ?_
    refine my_ifeq (tgt := 36) hx hb d_Model_lay_16 (by decide) (fun c_16 => ?_) (fun c_16 => ?_)
    · rw [layN_f (fun z => absurd (c_16.symm.trans z.1) (by decide))] at hP hD
      refine lv_iload_n hx hb d_Model_lay_36 rfl (lv_at hl 2 rfl) ?_
      refine lv_aload_n hx hb d_Model_lay_37 rfl (lv_at hl 0 rfl) ?_
      refine va_get (D := D) (ci := 2) (v := .ref (q 12)) (C := R_Model) (T := F_Model) (N := 10) hx hb htw i_Model hown hK hP 0 rfl rfl 4 (by decide) (htw _ tw_156) (fun _ h9 => h9) rfl d_Model_lay_38 ?_
      refine lv_iload_n hx hb d_Model_lay_41 rfl (lv_at hl 3 rfl) ?_
      refine my_zald hx hb hK hP 5 1 rfl rfl (i := b) (by omega) (by decide) d_Model_lay_42 ?_
      refine my_ifeq (tgt := 50) hx hb d_Model_lay_43 (by decide) (fun c_43 => ?_) (fun c_43 => absurd (c_16.symm.trans c_43) (by decide))
      refine lv_iconst (v := (nI 0)) hx hb d_Model_lay_50 (by decide) ?_
      refine my_iadd hx hb (x := cnt lo b) (y := 0) d_Model_lay_51 ?_
      refine lv_as (y := nI (cnt lo (b + 1))) (congrArg nI (cnt_f c_16)) ?_
      refine lv_istore_n (lv' := [(2, .int (nI (cnt lo (b + 1)))), (0, .ref (q 7)), (1, .int (nI n)), (3, .int (nI b))]) hx hb d_Model_lay_52 rfl hl (by decide) rfl (fun ls hl => ?_)
      refine lv_iinc (v := (nI (b + 1))) (lv' := [(3, .int (nI (b + 1))), (2, .int (nI (cnt lo (b + 1)))), (0, .ref (q 7)), (1, .int (nI n))]) hx hb d_Model_lay_53 hl (k := 3) rfl (nI_add _ 1) (by decide) rfl (fun ls hl => ?_)
      refine lv_goto (tgt := 4) hx hb d_Model_lay_56 (by decide) ?_
      exact ih _ _ _ hP hD hS (lv_sub hl [2, 3, 1, 0] rfl)
    · refine lv_iload_n hx hb d_Model_lay_19 rfl (lv_at hl 2 rfl) ?_
      refine lv_iload_n hx hb d_Model_lay_20 rfl (lv_at hl 1 rfl) ?_
      refine my_icmpge (tgt := 36) hx hb (x := cnt lo b) (y := n) (by omega) (by omega) d_Model_lay_21 (by decide) (fun c_21 => ?_) (fun c_21 => ?_)
      · rw [layN_f (fun z => absurd z.2 (by omega))] at hP hD
        refine lv_iload_n hx hb d_Model_lay_36 rfl (lv_at hl 2 rfl) ?_
        refine lv_aload_n hx hb d_Model_lay_37 rfl (lv_at hl 0 rfl) ?_
        refine va_get (D := D) (ci := 2) (v := .ref (q 12)) (C := R_Model) (T := F_Model) (N := 10) hx hb htw i_Model hown hK hP 0 rfl rfl 4 (by decide) (htw _ tw_156) (fun _ h9 => h9) rfl d_Model_lay_38 ?_
        refine lv_iload_n hx hb d_Model_lay_41 rfl (lv_at hl 3 rfl) ?_
        refine my_zald hx hb hK hP 5 1 rfl rfl (i := b) (by omega) (by decide) d_Model_lay_42 ?_
        refine my_ifeq (tgt := 50) hx hb d_Model_lay_43 (by decide) (fun c_43 => absurd (c_16.symm.trans c_43) (by decide)) (fun c_43 => ?_)
        refine lv_iconst (v := (nI 1)) hx hb d_Model_lay_46 (by decide) ?_
        refine lv_goto (tgt := 51) hx hb d_Model_lay_47 (by decide) ?_
        refine my_iadd hx hb (x := cnt lo b) (y := 1) d_Model_lay_51 ?_
        refine lv_as (y := nI (cnt lo (b + 1))) (congrArg nI (cnt_t c_16)) ?_
        refine lv_istore_n (lv' := [(2, .int (nI (cnt lo (b + 1)))), (0, .ref (q 7)), (1, .int (nI n)), (3, .int (nI b))]) hx hb d_Model_lay_52 rfl hl (by decide) rfl (fun ls hl => ?_)
        refine lv_iinc (v := (nI (b + 1))) (lv' := [(3, .int (nI (b + 1))), (2, .int (nI (cnt lo (b + 1)))), (0, .ref (q 7)), (1, .int (nI n))]) hx hb d_Model_lay_53 hl (k := 3) rfl (nI_add _ 1) (by decide) rfl (fun ls hl => ?_)
        refine lv_goto (tgt := 4) hx hb d_Model_lay_56 (by decide) ?_
        exact ih _ _ _ hP hD hS (lv_sub hl [2, 3, 1, 0] rfl)
      · refine lv_aload_n hx hb d_Model_lay_24 rfl (lv_at hl 0 rfl) ?_
        refine va_get (D := D) (ci := 2) (v := .ref (q 10)) (C := R_Model) (T := F_Model) (N := 10) hx hb htw i_Model hown hK hP 0 rfl rfl 2 (by decide) (htw _ tw_154) (fun _ h9 => h9) rfl d_Model_lay_25 ?_
        refine lv_aload_n hx hb d_Model_lay_28 rfl (lv_at hl 0 rfl) ?_
        refine va_get (D := D) (ci := 2) (v := .ref (q 9)) (C := R_Model) (T := F_Model) (N := 10) hx hb htw i_Model hown hK hP 0 rfl rfl 1 (by decide) (htw _ tw_153) (fun _ h9 => h9) rfl d_Model_lay_29 ?_
        refine lv_iload_n hx hb d_Model_lay_32 rfl (lv_at hl 3 rfl) ?_
        refine call_Sv (n := 3) (As := [.ref (q 10), .ref (q 9), .int (nI b)]) (ws' := mW k q wk (va_cpy lg (layN b lo n lg dk) (16 * b) (16 * b) 16) lg dt lo off mk la lf sh) ⟨hx, hb, hml, hown, htw⟩ (c_Model_copy l D k (q 10) (q 9) lg (layN b lo n lg dk) b hlt) (in_S tw_217 tw_218 tw_11 tw_219) (by decide +kernel) ⟨rfl, rfl, Nat.le_of_ble_eq_true rfl, Nat.le_of_ble_eq_true rfl⟩ hK hN hP hD hS hA [3, 2] [0, 1, 4, 5] [0, 1, 5, 4, 2, 3] rfl rfl ([oM q off mk la lf sh, aB k (q 8) wk, aZ k (q 11) dt, aZ k (q 12) lo]) rfl rfl (by decide) rfl rfl hl.1 rfl rfl (Nat.le_of_ble_eq_true rfl) d_Model_lay_33 ⟨Nat.zero_le _, Nat.zero_le _⟩ (fun H locs hP hD hS => ?_)
        rw [layN_t c_16 c_21] at hP hD
        refine lv_iload_n hx hb d_Model_lay_36 rfl (lv_at hl 2 rfl) ?_
        refine lv_aload_n hx hb d_Model_lay_37 rfl (lv_at hl 0 rfl) ?_
        refine va_get (D := D) (ci := 2) (v := .ref (q 12)) (C := R_Model) (T := F_Model) (N := 10) hx hb htw i_Model hown hK hP 0 rfl rfl 4 (by decide) (htw _ tw_156) (fun _ h9 => h9) rfl d_Model_lay_38 ?_
        refine lv_iload_n hx hb d_Model_lay_41 rfl (lv_at hl 3 rfl) ?_
        refine my_zald hx hb hK hP 5 1 rfl rfl (i := b) (by omega) (by decide) d_Model_lay_42 ?_
        refine my_ifeq (tgt := 50) hx hb d_Model_lay_43 (by decide) (fun c_43 => absurd (c_16.symm.trans c_43) (by decide)) (fun c_43 => ?_)
        refine lv_iconst (v := (nI 1)) hx hb d_Model_lay_46 (by decide) ?_
        refine lv_goto (tgt := 51) hx hb d_Model_lay_47 (by decide) ?_
        refine my_iadd hx hb (x := cnt lo b) (y := 1) d_Model_lay_51 ?_
        refine lv_as (y := nI (cnt lo (b + 1))) (congrArg nI (cnt_t c_16)) ?_
        refine lv_istore_n (lv' := [(2, .int (nI (cnt lo (b + 1)))), (0, .ref (q 7)), (1, .int (nI n)), (3, .int (nI b))]) hx hb d_Model_lay_52 rfl hl (by decide) rfl (fun ls hl => ?_)
        refine lv_iinc (v := (nI (b + 1))) (lv' := [(3, .int (nI (b + 1))), (2, .int (nI (cnt lo (b + 1)))), (0, .ref (q 7)), (1, .int (nI n))]) hx hb d_Model_lay_53 hl (k := 3) rfl (nI_add _ 1) (by decide) rfl (fun ls hl => ?_)
        refine lv_goto (tgt := 4) hx hb d_Model_lay_56 (by decide) ?_
        exact ih _ _ _ hP hD hS (lv_sub hl [2, 3, 1, 0] rfl)
  · intro H locs ls hP hD hS hl
    have hP : va_P D classes (mW k q wk (layN 24 lo n lg dk) lg dt lo off mk la lf sh) H := hP
    have hD : va_D A (mW k q wk (layN 24 lo n lg dk) lg dt lo off mk la lf sh) := hD
    have hl : lv_has ls 4 [(0, .ref (q 7)), (1, .int (nI n)), (2, .int (nI (cnt lo 24))), (3, .int (nI 24))] := hl
    refine lv_iload_n hx hb d_Model_lay_4 rfl (lv_at hl 3 rfl) ?_
    refine lv_bipush (v := (nI 24)) hx hb d_Model_lay_5 (by decide) ?_
    refine my_icmpge (tgt := 59) hx hb (x := 24) (y := 24) (by omega) (by omega) d_Model_lay_7 (by decide) (fun c_7 => ?_) (fun c_7 => absurd c_7 (by omega))
    exact ret_v hx hb hr hlocks hK hP hD hS d_Model_lay_59
set_option maxHeartbeats 4000000 in
set_option maxRecDepth 100000 in
theorem c_Model_fresh (l : Launch) (D : va_G) (k : Nat → ClassId) (q : Nat → Nat) (wk : Nat → Int8) (dk : Nat → Int8) (lg : Nat → Int8) (dt : Nat → Bool) (lo : Nat → Bool) (off : Bool) (mk : Bool) (la : Nat) (lf : Int32) (sh : Nat) : Cv l D (tyK k) y_Model_fresh k_Model_fresh ({ frames := 1, cells := 0, slots := 0, locals := 23 }) [.ref (q 7)] (mW k q wk dk lg dt lo off mk la lf sh) (mW k q (cpA 24 dk wk) dk lg (clr 24 dt) lo off mk la lf sh) := by
  refine open_v (by decide) (Nat.le_of_ble_eq_true rfl) ?_
  intro pg ev s m below meth c A hx hb hml hr hlocks htw hown hnm hA hS hP hK hD hN ls hl
  have hown : s.vm.findClass R_Model = some m.cls := hown
  have hl : lv_has ls 2 [(0, .ref (q 7))] := hl
  refine lv_iconst (v := (nI 0)) hx hb d_Model_fresh_0 (by decide) ?_
  refine lv_istore_n (lv' := [(1, .int (nI 0)), (0, .ref (q 7))]) hx hb d_Model_fresh_1 rfl hl (by decide) rfl (fun ls hl => ?_)
  have hP : va_P D classes (mW k q (cpA 0 dk wk) dk lg (clr 0 dt) lo off mk la lf sh) s.heap := by rw [cpA_0, clr_0]; exact hP
  have hD : va_D A (mW k q (cpA 0 dk wk) dk lg (clr 0 dt) lo off mk la lf sh) := by rw [cpA_0, clr_0]; exact hD
  have hl := lv_sub hl [1, 0] rfl
  refine loopW (nL := 2) (D := D) (A := A) (24) (fun b => mW k q (cpA b dk wk) dk lg (clr b dt) lo off mk la lf sh) (fun b => [(0, .ref (q 7)), (1, .int (nI b))]) ?_ ?_ 0 (Nat.zero_le _) _ _ _ hP hD hS hl
  · intro b hlt ih H locs ls hP hD hS hl
    have hP : va_P D classes (mW k q (cpA b dk wk) dk lg (clr b dt) lo off mk la lf sh) H := hP
    have hD : va_D A (mW k q (cpA b dk wk) dk lg (clr b dt) lo off mk la lf sh) := hD
    have hl : lv_has ls 2 [(0, .ref (q 7)), (1, .int (nI b))] := hl
    refine lv_iload_n hx hb d_Model_fresh_2 rfl (lv_at hl 1 rfl) ?_
    refine lv_bipush (v := (nI 24)) hx hb d_Model_fresh_3 (by decide) ?_
    refine my_icmpge (tgt := 33) hx hb (x := b) (y := 24) (by omega) (by omega) d_Model_fresh_5 (by decide) (fun c_5 => absurd c_5 (by omega)) (fun c_5 => ?_)
    refine lv_aload_n hx hb d_Model_fresh_8 rfl (lv_at hl 0 rfl) ?_
    refine va_get (D := D) (ci := 2) (v := .ref (q 9)) (C := R_Model) (T := F_Model) (N := 10) hx hb htw i_Model hown hK hP 0 rfl rfl 1 (by decide) (htw _ tw_153) (fun _ h9 => h9) rfl d_Model_fresh_9 ?_
    refine lv_aload_n hx hb d_Model_fresh_12 rfl (lv_at hl 0 rfl) ?_
    refine va_get (D := D) (ci := 2) (v := .ref (q 8)) (C := R_Model) (T := F_Model) (N := 10) hx hb htw i_Model hown hK hP 0 rfl rfl 0 (by decide) (htw _ tw_152) (fun _ h9 => h9) rfl d_Model_fresh_13 ?_
    refine lv_iload_n hx hb d_Model_fresh_16 rfl (lv_at hl 1 rfl) ?_
    refine call_Sv (n := 3) (As := [.ref (q 9), .ref (q 8), .int (nI b)]) (ws' := mW k q (va_cpy dk (cpA b dk wk) (16 * b) (16 * b) 16) dk lg (clr b dt) lo off mk la lf sh) ⟨hx, hb, hml, hown, htw⟩ (c_Model_copy l D k (q 9) (q 8) dk (cpA b dk wk) b hlt) (in_S tw_217 tw_218 tw_11 tw_219) (by decide +kernel) ⟨rfl, rfl, Nat.le_of_ble_eq_true rfl, Nat.le_of_ble_eq_true rfl⟩ hK hN hP hD hS hA [2, 1] [0, 3, 4, 5] [0, 5, 4, 1, 2, 3] rfl rfl ([oM q off mk la lf sh, aB k (q 10) lg, aZ k (q 11) (clr b dt), aZ k (q 12) lo]) rfl rfl (by decide) rfl rfl hl.1 rfl rfl (Nat.le_of_ble_eq_true rfl) d_Model_fresh_17 ⟨Nat.zero_le _, Nat.zero_le _⟩ (fun H locs hP hD hS => ?_)
    rw [cpA_s] at hP hD
    refine lv_aload_n hx hb d_Model_fresh_20 rfl (lv_at hl 0 rfl) ?_
    refine va_get (D := D) (ci := 2) (v := .ref (q 11)) (C := R_Model) (T := F_Model) (N := 10) hx hb htw i_Model hown hK hP 0 rfl rfl 3 (by decide) (htw _ tw_155) (fun _ h9 => h9) rfl d_Model_fresh_21 ?_
    refine lv_iload_n hx hb d_Model_fresh_24 rfl (lv_at hl 1 rfl) ?_
    refine lv_iconst (v := (nI 0)) hx hb d_Model_fresh_25 (by decide) ?_
    refine lv_as (y := (bI false)) rfl ?_
    refine my_zast hx hb hK hP hD hS 4 1 rfl rfl (i := b) (v := false) (by omega) (by decide) d_Model_fresh_26 (fun H locs hP hD hS => ?_)
    have hP : va_P D classes (mW k q (cpA (b + 1) dk wk) dk lg (va_up (clr b dt) b false) lo off mk la lf sh) H := hP
    have hD : va_D A (mW k q (cpA (b + 1) dk wk) dk lg (va_up (clr b dt) b false) lo off mk la lf sh) := hD
    rw [clr_s] at hP hD
    refine lv_iinc (v := (nI (b + 1))) (lv' := [(1, .int (nI (b + 1))), (0, .ref (q 7))]) hx hb d_Model_fresh_27 hl (k := 1) rfl (nI_add _ 1) (by decide) rfl (fun ls hl => ?_)
    refine lv_goto (tgt := 2) hx hb d_Model_fresh_30 (by decide) ?_
    exact ih _ _ _ hP hD hS (lv_sub hl [1, 0] rfl)
  · intro H locs ls hP hD hS hl
    have hP : va_P D classes (mW k q (cpA 24 dk wk) dk lg (clr 24 dt) lo off mk la lf sh) H := hP
    have hD : va_D A (mW k q (cpA 24 dk wk) dk lg (clr 24 dt) lo off mk la lf sh) := hD
    have hl : lv_has ls 2 [(0, .ref (q 7)), (1, .int (nI 24))] := hl
    refine lv_iload_n hx hb d_Model_fresh_2 rfl (lv_at hl 1 rfl) ?_
    refine lv_bipush (v := (nI 24)) hx hb d_Model_fresh_3 (by decide) ?_
    refine my_icmpge (tgt := 33) hx hb (x := 24) (y := 24) (by omega) (by omega) d_Model_fresh_5 (by decide) (fun c_5 => ?_) (fun c_5 => absurd c_5 (by omega))
    exact ret_v hx hb hr hlocks hK hP hD hS d_Model_fresh_33
set_option maxHeartbeats 4000000 in
set_option maxRecDepth 100000 in
theorem c_Model_commit_off (l : Launch) (D : va_G) (k : Nat → ClassId) (q : Nat → Nat) (wk : Nat → Int8) (dk : Nat → Int8) (lg : Nat → Int8) (dt : Nat → Bool) (lo : Nat → Bool) (mk : Bool) (la : Nat) (lf : Int32) (sh : Nat) : Ci l D (tyK k) y_Model_commit k_Model_commit ({ frames := 2, cells := 0, slots := 0, locals := 46 }) [.ref (q 7)] (mW k q wk dk lg dt lo true mk la lf sh) (bI false) (mW k q wk dk lg dt lo true mk la lf sh) := by
  refine open_i (by decide) (Nat.le_of_ble_eq_true rfl) ?_
  intro pg ev s m below meth c A hx hb hml hr hlocks htw hown hnm hA hS hP hK hD hN ls hl
  have hown : s.vm.findClass R_Model = some m.cls := hown
  have hl : lv_has ls 3 [(0, .ref (q 7))] := hl
  refine lv_aload_n hx hb d_Model_commit_0 rfl (lv_at hl 0 rfl) ?_
  refine va_get (D := D) (ci := 2) (v := .int (bI true)) (C := R_Model) (T := F_Model) (N := 10) hx hb htw i_Model hown hK hP 0 rfl rfl 5 (by decide) (htw _ tw_157) (fun _ h9 => h9) rfl d_Model_commit_1 ?_
  refine my_ifeq (tgt := 9) hx hb d_Model_commit_4 (by decide) (fun c => absurd c (by decide)) (fun _ => ?_)
  refine lv_iconst (v := (nI 0)) hx hb d_Model_commit_7 (by decide) ?_
  refine lv_as (y := (bI false)) rfl ?_
  exact ret_z hx hb hr hlocks hK hP hD hS (v := false) rfl d_Model_commit_8
set_option maxHeartbeats 4000000 in
set_option maxRecDepth 100000 in
theorem c_Model_commit_A (l : Launch) (D : va_G) (k : Nat → ClassId) (q : Nat → Nat) (wk : Nat → Int8) (dk : Nat → Int8) (lg : Nat → Int8) (dt : Nat → Bool) (lo : Nat → Bool) (mk : Bool) (la : Nat) (sh : Nat) (hsh : sh < 500) : Ci l D (tyK k) y_Model_commit k_Model_commit ({ frames := 2, cells := 0, slots := 0, locals := 46 }) [.ref (q 7)] (mW k q wk dk lg dt lo false mk la (nI 1) sh) (bI false) (mW k q wk dk lg dt lo true mk (cnt dt 24) (nI 0) sh) := by
  refine open_i (by decide) (Nat.le_of_ble_eq_true rfl) ?_
  intro pg ev s m below meth c A hx hb hml hr hlocks htw hown hnm hA hS hP hK hD hN ls hl
  have hown : s.vm.findClass R_Model = some m.cls := hown
  have hl : lv_has ls 3 [(0, .ref (q 7))] := hl
  have hc24 := cnt_le dt 24
  refine lv_aload_n hx hb d_Model_commit_0 rfl (lv_at hl 0 rfl) ?_
  refine va_get (D := D) (ci := 2) (v := .int (bI false)) (C := R_Model) (T := F_Model) (N := 10) hx hb htw i_Model hown hK hP 0 rfl rfl 5 (by decide) (htw _ tw_157) (fun _ h9 => h9) rfl d_Model_commit_1 ?_
  refine my_ifeq (tgt := 9) hx hb d_Model_commit_4 (by decide) (fun _ => ?_) (fun c => absurd c (by decide))
  refine lv_aload_n hx hb d_Model_commit_9 rfl (lv_at hl 0 rfl) ?_
  refine call_Vi (n := 0) (As := []) (ws' := mW k q wk dk lg dt lo false mk la (nI 1) sh) ⟨hx, hb, hml, hown, htw⟩ (c_Model_many l D k q wk dk lg dt lo false mk la (nI 1) sh) (in_V tw_209 tw_211 tw_3 tw_11 tw_212) (by decide +kernel) ⟨rfl, rfl, Nat.le_of_ble_eq_true rfl, Nat.le_of_ble_eq_true rfl⟩ hK hN hP hD hS hA [0, 1, 2, 3, 4, 5] [] [0, 1, 2, 3, 4, 5] rfl rfl ([]) rfl rfl (by decide) rfl rfl 2 rfl 0 rfl hl.1 rfl rfl (Nat.le_of_ble_eq_true rfl) d_Model_commit_10 ⟨Nat.zero_le _, Nat.zero_le _⟩ (fun H locs hP hD hS => ?_)
  refine lv_istore_n (lv' := [(1, .int (nI (cnt dt 24))), (0, .ref (q 7))]) hx hb d_Model_commit_13 rfl hl (by decide) rfl (fun ls hl => ?_)
  refine lv_aload_n hx hb d_Model_commit_14 rfl (lv_at hl 1 rfl) ?_
  refine lv_iload_n hx hb d_Model_commit_15 rfl (lv_at hl 0 rfl) ?_
  refine va_put (D := D) (ci := 2) (v := .int (nI (cnt dt 24))) (ty := .int) (C := R_Model) (T := F_Model) (N := 10) hx hb htw i_Model t_Model t_Model_ok n_Model hown hK hP hD hS 0 rfl rfl 7 (by decide) (htw _ tw_159) (fun _ h9 => h9) rfl (by decide +kernel) rfl rfl (Nat.le_of_ble_eq_true rfl) d_Model_commit_16 (fun H locs hP hD hS => ?_)
  have hP : va_P D classes (mW k q wk dk lg dt lo false mk (cnt dt 24) (nI 1) sh) H := hP
  have hD : va_D A (mW k q wk dk lg dt lo false mk (cnt dt 24) (nI 1) sh) := hD
  refine lv_aload_n hx hb d_Model_commit_19 rfl (lv_at hl 1 rfl) ?_
  refine lv_aload_n hx hb d_Model_commit_20 rfl (lv_at hl 1 rfl) ?_
  refine va_get (D := D) (ci := 2) (v := .int (nI 1)) (C := R_Model) (T := F_Model) (N := 10) hx hb htw i_Model hown hK hP 0 rfl rfl 8 (by decide) (htw _ tw_160) (fun _ h9 => h9) rfl d_Model_commit_21 ?_
  refine lv_if_le (tgt := 36) hx hb d_Model_commit_24 (by decide) (fun c_24 => absurd c_24 (by decide)) (fun c_24 => ?_)
  refine lv_aload_n hx hb d_Model_commit_27 rfl (lv_at hl 1 rfl) ?_
  refine va_get (D := D) (ci := 2) (v := .int (nI 1)) (C := R_Model) (T := F_Model) (N := 10) hx hb htw i_Model hown hK hP 0 rfl rfl 8 (by decide) (htw _ tw_160) (fun _ h9 => h9) rfl d_Model_commit_28 ?_
  refine lv_iconst (v := (nI 1)) hx hb d_Model_commit_31 (by decide) ?_
  refine my_isub hx hb (x := 1) (y := 1) (by omega) d_Model_commit_32 ?_
  refine lv_goto (tgt := 37) hx hb d_Model_commit_33 (by decide) ?_
  refine lv_as (y := nI 0) rfl ?_
  refine va_put (D := D) (ci := 2) (v := .int (nI 0)) (ty := .int) (C := R_Model) (T := F_Model) (N := 10) hx hb htw i_Model t_Model t_Model_ok n_Model hown hK hP hD hS 0 rfl rfl 8 (by decide) (htw _ tw_160) (fun _ h9 => h9) rfl (by decide +kernel) rfl rfl (Nat.le_of_ble_eq_true rfl) d_Model_commit_37 (fun H locs hP hD hS => ?_)
  have hP : va_P D classes (mW k q wk dk lg dt lo false mk (cnt dt 24) (nI 0) sh) H := hP
  have hD : va_D A (mW k q wk dk lg dt lo false mk (cnt dt 24) (nI 0) sh) := hD
  refine lv_aload_n hx hb d_Model_commit_40 rfl (lv_at hl 1 rfl) ?_
  refine lv_aload_n hx hb d_Model_commit_41 rfl (lv_at hl 1 rfl) ?_
  refine va_get (D := D) (ci := 2) (v := .int (nI 0)) (C := R_Model) (T := F_Model) (N := 10) hx hb htw i_Model hown hK hP 0 rfl rfl 8 (by decide) (htw _ tw_160) (fun _ h9 => h9) rfl d_Model_commit_42 ?_
  refine lv_as (y := (bI false)) rfl ?_
  refine my_ifne (tgt := 52) hx hb d_Model_commit_45 (by decide) (fun c => absurd c (by decide)) (fun _ => ?_)
  refine lv_iconst (v := (nI 1)) hx hb d_Model_commit_48 (by decide) ?_
  refine lv_goto (tgt := 53) hx hb d_Model_commit_49 (by decide) ?_
  refine lv_as (y := (bI true)) rfl ?_
  refine va_put (D := D) (ci := 2) (v := .int (bI true)) (ty := .boolean) (C := R_Model) (T := F_Model) (N := 10) hx hb htw i_Model t_Model t_Model_ok n_Model hown hK hP hD hS 0 rfl rfl 5 (by decide) (htw _ tw_157) (fun _ h9 => h9) rfl (by decide +kernel) (bI_nar _) (bI_fit _) (Nat.le_of_ble_eq_true rfl) d_Model_commit_53 (fun H locs hP hD hS => ?_)
  have hP : va_P D classes (mW k q wk dk lg dt lo true mk (cnt dt 24) (nI 0) sh) H := hP
  have hD : va_D A (mW k q wk dk lg dt lo true mk (cnt dt 24) (nI 0) sh) := hD
  refine lv_aload_n hx hb d_Model_commit_56 rfl (lv_at hl 1 rfl) ?_
  refine va_get (D := D) (ci := 2) (v := .int (bI true)) (C := R_Model) (T := F_Model) (N := 10) hx hb htw i_Model hown hK hP 0 rfl rfl 5 (by decide) (htw _ tw_157) (fun _ h9 => h9) rfl d_Model_commit_57 ?_
  refine my_ifeq (tgt := 75) hx hb d_Model_commit_60 (by decide) (fun c => absurd c (by decide)) (fun _ => ?_)
  refine lv_aload_n hx hb d_Model_commit_63 rfl (lv_at hl 1 rfl) ?_
  refine va_get (D := D) (ci := 2) (v := .int (nI sh)) (C := R_Model) (T := F_Model) (N := 10) hx hb htw i_Model hown hK hP 0 rfl rfl 9 (by decide) (htw _ tw_161) (fun _ h9 => h9) rfl d_Model_commit_64 ?_
  refine lv_sipush (v := (nI 500)) hx hb d_Model_commit_67 (by decide) ?_
  refine my_icmpge (tgt := 75) hx hb (x := sh) (y := 500) (by omega) (by omega) d_Model_commit_70 (by decide) (fun c_70 => absurd c_70 (by omega)) (fun c_70 => ?_)
  refine lv_iconst (v := (nI 0)) hx hb d_Model_commit_73 (by decide) ?_
  refine lv_as (y := (bI false)) rfl ?_
  exact ret_z hx hb hr hlocks hK hP hD hS (v := false) rfl d_Model_commit_74
set_option maxHeartbeats 4000000 in
set_option maxRecDepth 100000 in
theorem c_Model_commit_B (l : Launch) (D : va_G) (k : Nat → ClassId) (q : Nat → Nat) (wk : Nat → Int8) (dk : Nat → Int8) (lg : Nat → Int8) (dt : Nat → Bool) (lo : Nat → Bool) (mk : Bool) (la : Nat) (sh : Nat) (hsh : 500 ≤ sh) (hs2 : sh < 1000) : Ci l D (tyK k) y_Model_commit k_Model_commit ({ frames := 2, cells := 0, slots := 0, locals := 46 }) [.ref (q 7)] (mW k q wk dk lg dt lo false mk la (nI 1) sh) (bI false) (mW k q wk (layN 24 (cpL 24 dt lo) ((cnt dt 24 * (sh - 500)) / 500) (cpD 24 dt wk lg) dk) (cpD 24 dt wk lg) (clr 24 dt) (cpL 24 dt lo) true true (cnt dt 24) (nI 0) sh) := by
  refine open_i (by decide) (Nat.le_of_ble_eq_true rfl) ?_
  intro pg ev s m below meth c A hx hb hml hr hlocks htw hown hnm hA hS hP hK hD hN ls hl
  have hown : s.vm.findClass R_Model = some m.cls := hown
  have hl : lv_has ls 3 [(0, .ref (q 7))] := hl
  have hc24 := cnt_le dt 24
  have hdv : cnt dt 24 * (sh - 500) / 500 ≤ cnt dt 24 := div_b (by omega)
  have hmu := mul_b hc24 (show sh - 500 ≤ 1000 by omega)
  refine lv_aload_n hx hb d_Model_commit_0 rfl (lv_at hl 0 rfl) ?_
  refine va_get (D := D) (ci := 2) (v := .int (bI false)) (C := R_Model) (T := F_Model) (N := 10) hx hb htw i_Model hown hK hP 0 rfl rfl 5 (by decide) (htw _ tw_157) (fun _ h9 => h9) rfl d_Model_commit_1 ?_
  refine my_ifeq (tgt := 9) hx hb d_Model_commit_4 (by decide) (fun _ => ?_) (fun c => absurd c (by decide))
  refine lv_aload_n hx hb d_Model_commit_9 rfl (lv_at hl 0 rfl) ?_
  refine call_Vi (n := 0) (As := []) (ws' := mW k q wk dk lg dt lo false mk la (nI 1) sh) ⟨hx, hb, hml, hown, htw⟩ (c_Model_many l D k q wk dk lg dt lo false mk la (nI 1) sh) (in_V tw_209 tw_211 tw_3 tw_11 tw_212) (by decide +kernel) ⟨rfl, rfl, Nat.le_of_ble_eq_true rfl, Nat.le_of_ble_eq_true rfl⟩ hK hN hP hD hS hA [0, 1, 2, 3, 4, 5] [] [0, 1, 2, 3, 4, 5] rfl rfl ([]) rfl rfl (by decide) rfl rfl 2 rfl 0 rfl hl.1 rfl rfl (Nat.le_of_ble_eq_true rfl) d_Model_commit_10 ⟨Nat.zero_le _, Nat.zero_le _⟩ (fun H locs hP hD hS => ?_)
  refine lv_istore_n (lv' := [(1, .int (nI (cnt dt 24))), (0, .ref (q 7))]) hx hb d_Model_commit_13 rfl hl (by decide) rfl (fun ls hl => ?_)
  refine lv_aload_n hx hb d_Model_commit_14 rfl (lv_at hl 1 rfl) ?_
  refine lv_iload_n hx hb d_Model_commit_15 rfl (lv_at hl 0 rfl) ?_
  refine va_put (D := D) (ci := 2) (v := .int (nI (cnt dt 24))) (ty := .int) (C := R_Model) (T := F_Model) (N := 10) hx hb htw i_Model t_Model t_Model_ok n_Model hown hK hP hD hS 0 rfl rfl 7 (by decide) (htw _ tw_159) (fun _ h9 => h9) rfl (by decide +kernel) rfl rfl (Nat.le_of_ble_eq_true rfl) d_Model_commit_16 (fun H locs hP hD hS => ?_)
  have hP : va_P D classes (mW k q wk dk lg dt lo false mk (cnt dt 24) (nI 1) sh) H := hP
  have hD : va_D A (mW k q wk dk lg dt lo false mk (cnt dt 24) (nI 1) sh) := hD
  refine lv_aload_n hx hb d_Model_commit_19 rfl (lv_at hl 1 rfl) ?_
  refine lv_aload_n hx hb d_Model_commit_20 rfl (lv_at hl 1 rfl) ?_
  refine va_get (D := D) (ci := 2) (v := .int (nI 1)) (C := R_Model) (T := F_Model) (N := 10) hx hb htw i_Model hown hK hP 0 rfl rfl 8 (by decide) (htw _ tw_160) (fun _ h9 => h9) rfl d_Model_commit_21 ?_
  refine lv_if_le (tgt := 36) hx hb d_Model_commit_24 (by decide) (fun c_24 => absurd c_24 (by decide)) (fun c_24 => ?_)
  refine lv_aload_n hx hb d_Model_commit_27 rfl (lv_at hl 1 rfl) ?_
  refine va_get (D := D) (ci := 2) (v := .int (nI 1)) (C := R_Model) (T := F_Model) (N := 10) hx hb htw i_Model hown hK hP 0 rfl rfl 8 (by decide) (htw _ tw_160) (fun _ h9 => h9) rfl d_Model_commit_28 ?_
  refine lv_iconst (v := (nI 1)) hx hb d_Model_commit_31 (by decide) ?_
  refine my_isub hx hb (x := 1) (y := 1) (by omega) d_Model_commit_32 ?_
  refine lv_goto (tgt := 37) hx hb d_Model_commit_33 (by decide) ?_
  refine lv_as (y := nI 0) rfl ?_
  refine va_put (D := D) (ci := 2) (v := .int (nI 0)) (ty := .int) (C := R_Model) (T := F_Model) (N := 10) hx hb htw i_Model t_Model t_Model_ok n_Model hown hK hP hD hS 0 rfl rfl 8 (by decide) (htw _ tw_160) (fun _ h9 => h9) rfl (by decide +kernel) rfl rfl (Nat.le_of_ble_eq_true rfl) d_Model_commit_37 (fun H locs hP hD hS => ?_)
  have hP : va_P D classes (mW k q wk dk lg dt lo false mk (cnt dt 24) (nI 0) sh) H := hP
  have hD : va_D A (mW k q wk dk lg dt lo false mk (cnt dt 24) (nI 0) sh) := hD
  refine lv_aload_n hx hb d_Model_commit_40 rfl (lv_at hl 1 rfl) ?_
  refine lv_aload_n hx hb d_Model_commit_41 rfl (lv_at hl 1 rfl) ?_
  refine va_get (D := D) (ci := 2) (v := .int (nI 0)) (C := R_Model) (T := F_Model) (N := 10) hx hb htw i_Model hown hK hP 0 rfl rfl 8 (by decide) (htw _ tw_160) (fun _ h9 => h9) rfl d_Model_commit_42 ?_
  refine lv_as (y := (bI false)) rfl ?_
  refine my_ifne (tgt := 52) hx hb d_Model_commit_45 (by decide) (fun c => absurd c (by decide)) (fun _ => ?_)
  refine lv_iconst (v := (nI 1)) hx hb d_Model_commit_48 (by decide) ?_
  refine lv_goto (tgt := 53) hx hb d_Model_commit_49 (by decide) ?_
  refine lv_as (y := (bI true)) rfl ?_
  refine va_put (D := D) (ci := 2) (v := .int (bI true)) (ty := .boolean) (C := R_Model) (T := F_Model) (N := 10) hx hb htw i_Model t_Model t_Model_ok n_Model hown hK hP hD hS 0 rfl rfl 5 (by decide) (htw _ tw_157) (fun _ h9 => h9) rfl (by decide +kernel) (bI_nar _) (bI_fit _) (Nat.le_of_ble_eq_true rfl) d_Model_commit_53 (fun H locs hP hD hS => ?_)
  have hP : va_P D classes (mW k q wk dk lg dt lo true mk (cnt dt 24) (nI 0) sh) H := hP
  have hD : va_D A (mW k q wk dk lg dt lo true mk (cnt dt 24) (nI 0) sh) := hD
  refine lv_aload_n hx hb d_Model_commit_56 rfl (lv_at hl 1 rfl) ?_
  refine va_get (D := D) (ci := 2) (v := .int (bI true)) (C := R_Model) (T := F_Model) (N := 10) hx hb htw i_Model hown hK hP 0 rfl rfl 5 (by decide) (htw _ tw_157) (fun _ h9 => h9) rfl d_Model_commit_57 ?_
  refine my_ifeq (tgt := 75) hx hb d_Model_commit_60 (by decide) (fun c => absurd c (by decide)) (fun _ => ?_)
  refine lv_aload_n hx hb d_Model_commit_63 rfl (lv_at hl 1 rfl) ?_
  refine va_get (D := D) (ci := 2) (v := .int (nI sh)) (C := R_Model) (T := F_Model) (N := 10) hx hb htw i_Model hown hK hP 0 rfl rfl 9 (by decide) (htw _ tw_161) (fun _ h9 => h9) rfl d_Model_commit_64 ?_
  refine lv_sipush (v := (nI 500)) hx hb d_Model_commit_67 (by decide) ?_
  refine my_icmpge (tgt := 75) hx hb (x := sh) (y := 500) (by omega) (by omega) d_Model_commit_70 (by decide) (fun c_70 => ?_) (fun c_70 => absurd c_70 (by omega))
  refine lv_aload_n hx hb d_Model_commit_75 rfl (lv_at hl 1 rfl) ?_
  refine call_Vv (n := 0) (As := []) (ws' := mW k q wk dk (cpD 24 dt wk lg) dt (cpL 24 dt lo) true true (cnt dt 24) (nI 0) sh) ⟨hx, hb, hml, hown, htw⟩ (c_Model_note l D k q wk dk lg dt lo true mk (cnt dt 24) (nI 0) sh) (in_V tw_213 tw_215 tw_4 tw_11 tw_216) (by decide +kernel) ⟨rfl, rfl, Nat.le_of_ble_eq_true rfl, Nat.le_of_ble_eq_true rfl⟩ hK hN hP hD hS hA [0, 1, 2, 3, 4, 5] [] [0, 1, 2, 3, 4, 5] rfl rfl ([]) rfl rfl (by decide) rfl rfl 2 rfl 0 rfl hl.1 rfl rfl (Nat.le_of_ble_eq_true rfl) d_Model_commit_76 ⟨Nat.zero_le _, Nat.zero_le _⟩ (fun H locs hP hD hS => ?_)
  refine lv_aload_n hx hb d_Model_commit_79 rfl (lv_at hl 1 rfl) ?_
  refine lv_aload_n hx hb d_Model_commit_80 rfl (lv_at hl 1 rfl) ?_
  refine va_get (D := D) (ci := 2) (v := .int (bI true)) (C := R_Model) (T := F_Model) (N := 10) hx hb htw i_Model hown hK hP 0 rfl rfl 5 (by decide) (htw _ tw_157) (fun _ h9 => h9) rfl d_Model_commit_81 ?_
  refine my_ifeq (tgt := 104) hx hb d_Model_commit_84 (by decide) (fun c => absurd c (by decide)) (fun _ => ?_)
  refine lv_iload_n hx hb d_Model_commit_87 rfl (lv_at hl 0 rfl) ?_
  refine lv_aload_n hx hb d_Model_commit_88 rfl (lv_at hl 1 rfl) ?_
  refine va_get (D := D) (ci := 2) (v := .int (nI sh)) (C := R_Model) (T := F_Model) (N := 10) hx hb htw i_Model hown hK hP 0 rfl rfl 9 (by decide) (htw _ tw_161) (fun _ h9 => h9) rfl d_Model_commit_89 ?_
  refine lv_sipush (v := (nI 500)) hx hb d_Model_commit_92 (by decide) ?_
  refine my_isub hx hb (x := sh) (y := 500) (by omega) d_Model_commit_95 ?_
  refine my_imul hx hb (x := cnt dt 24) (y := sh - 500) d_Model_commit_96 ?_
  refine lv_sipush (v := (nI 500)) hx hb d_Model_commit_97 (by decide) ?_
  refine my_idiv hx hb (x := (cnt dt 24) * (sh - 500)) (y := 500) (by omega) (by omega) (by omega) d_Model_commit_100 ?_
  refine lv_goto (tgt := 105) hx hb d_Model_commit_101 (by decide) ?_
  refine call_Vv (n := 1) (As := [.int (nI (((cnt dt 24) * (sh - 500)) / 500))]) (ws' := mW k q wk (layN 24 (cpL 24 dt lo) ((cnt dt 24 * (sh - 500)) / 500) (cpD 24 dt wk lg) dk) (cpD 24 dt wk lg) dt (cpL 24 dt lo) true true (cnt dt 24) (nI 0) sh) ⟨hx, hb, hml, hown, htw⟩ (c_Model_lay l D k q wk dk (cpD 24 dt wk lg) dt (cpL 24 dt lo) true true (cnt dt 24) (nI 0) sh ((cnt dt 24 * (sh - 500)) / 500) (by omega)) (in_V tw_220 tw_222 tw_5 tw_11 tw_223) (by decide +kernel) ⟨rfl, rfl, Nat.le_of_ble_eq_true rfl, Nat.le_of_ble_eq_true rfl⟩ hK hN hP hD hS hA [0, 1, 2, 3, 4, 5] [] [0, 1, 2, 3, 4, 5] rfl rfl ([]) rfl rfl (by decide) rfl rfl 2 rfl 0 rfl hl.1 rfl rfl (Nat.le_of_ble_eq_true rfl) d_Model_commit_105 ⟨Nat.zero_le _, Nat.zero_le _⟩ (fun H locs hP hD hS => ?_)
  refine lv_aload_n hx hb d_Model_commit_108 rfl (lv_at hl 1 rfl) ?_
  refine lv_aload_n hx hb d_Model_commit_109 rfl (lv_at hl 1 rfl) ?_
  refine va_get (D := D) (ci := 2) (v := .int (bI true)) (C := R_Model) (T := F_Model) (N := 10) hx hb htw i_Model hown hK hP 0 rfl rfl 5 (by decide) (htw _ tw_157) (fun _ h9 => h9) rfl d_Model_commit_110 ?_
  refine va_put (D := D) (ci := 2) (v := .int (bI true)) (ty := .boolean) (C := R_Model) (T := F_Model) (N := 10) hx hb htw i_Model t_Model t_Model_ok n_Model hown hK hP hD hS 0 rfl rfl 6 (by decide) (htw _ tw_158) (fun _ h9 => h9) rfl (by decide +kernel) (bI_nar _) (bI_fit _) (Nat.le_of_ble_eq_true rfl) d_Model_commit_113 (fun H locs hP hD hS => ?_)
  have hP : va_P D classes (mW k q wk (layN 24 (cpL 24 dt lo) ((cnt dt 24 * (sh - 500)) / 500) (cpD 24 dt wk lg) dk) (cpD 24 dt wk lg) dt (cpL 24 dt lo) true true (cnt dt 24) (nI 0) sh) H := hP
  have hD : va_D A (mW k q wk (layN 24 (cpL 24 dt lo) ((cnt dt 24 * (sh - 500)) / 500) (cpD 24 dt wk lg) dk) (cpD 24 dt wk lg) dt (cpL 24 dt lo) true true (cnt dt 24) (nI 0) sh) := hD
  refine lv_iconst (v := (nI 0)) hx hb d_Model_commit_116 (by decide) ?_
  refine lv_istore_n (lv' := [(2, .int (nI 0)), (1, .int (nI (cnt dt 24))), (0, .ref (q 7))]) hx hb d_Model_commit_117 rfl hl (by decide) rfl (fun ls hl => ?_)
  have hP : va_P D classes (mW k q wk (layN 24 (cpL 24 dt lo) ((cnt dt 24 * (sh - 500)) / 500) (cpD 24 dt wk lg) dk) (cpD 24 dt wk lg) (clr 0 dt) (cpL 24 dt lo) true true (cnt dt 24) (nI 0) sh) H := by rw [clr_0]; exact hP
  have hD : va_D A (mW k q wk (layN 24 (cpL 24 dt lo) ((cnt dt 24 * (sh - 500)) / 500) (cpD 24 dt wk lg) dk) (cpD 24 dt wk lg) (clr 0 dt) (cpL 24 dt lo) true true (cnt dt 24) (nI 0) sh) := by rw [clr_0]; exact hD
  have hl := lv_sub hl [2, 0] rfl
  refine loopW (nL := 3) (D := D) (A := A) (24) (fun b => mW k q wk (layN 24 (cpL 24 dt lo) ((cnt dt 24 * (sh - 500)) / 500) (cpD 24 dt wk lg) dk) (cpD 24 dt wk lg) (clr b dt) (cpL 24 dt lo) true true (cnt dt 24) (nI 0) sh) (fun b => [(0, .ref (q 7)), (2, .int (nI b))]) ?_ ?_ 0 (Nat.zero_le _) _ _ _ hP hD hS hl
  · intro b hlt ih H locs ls hP hD hS hl
    have hP : va_P D classes (mW k q wk (layN 24 (cpL 24 dt lo) ((cnt dt 24 * (sh - 500)) / 500) (cpD 24 dt wk lg) dk) (cpD 24 dt wk lg) (clr b dt) (cpL 24 dt lo) true true (cnt dt 24) (nI 0) sh) H := hP
    have hD : va_D A (mW k q wk (layN 24 (cpL 24 dt lo) ((cnt dt 24 * (sh - 500)) / 500) (cpD 24 dt wk lg) dk) (cpD 24 dt wk lg) (clr b dt) (cpL 24 dt lo) true true (cnt dt 24) (nI 0) sh) := hD
    have hl : lv_has ls 3 [(0, .ref (q 7)), (2, .int (nI b))] := hl
    refine lv_iload_n hx hb d_Model_commit_118 rfl (lv_at hl 1 rfl) ?_
    refine lv_bipush (v := (nI 24)) hx hb d_Model_commit_119 (by decide) ?_
    refine my_icmpge (tgt := 137) hx hb (x := b) (y := 24) (by omega) (by omega) d_Model_commit_121 (by decide) (fun c_121 => absurd c_121 (by omega)) (fun c_121 => ?_)
    refine lv_aload_n hx hb d_Model_commit_124 rfl (lv_at hl 0 rfl) ?_
    refine va_get (D := D) (ci := 2) (v := .ref (q 11)) (C := R_Model) (T := F_Model) (N := 10) hx hb htw i_Model hown hK hP 0 rfl rfl 3 (by decide) (htw _ tw_155) (fun _ h9 => h9) rfl d_Model_commit_125 ?_
    refine lv_iload_n hx hb d_Model_commit_128 rfl (lv_at hl 1 rfl) ?_
    refine lv_iconst (v := (nI 0)) hx hb d_Model_commit_129 (by decide) ?_
    refine lv_as (y := (bI false)) rfl ?_
    refine my_zast hx hb hK hP hD hS 4 1 rfl rfl (i := b) (v := false) (by omega) (by decide) d_Model_commit_130 (fun H locs hP hD hS => ?_)
    have hP : va_P D classes (mW k q wk (layN 24 (cpL 24 dt lo) ((cnt dt 24 * (sh - 500)) / 500) (cpD 24 dt wk lg) dk) (cpD 24 dt wk lg) (va_up (clr b dt) b false) (cpL 24 dt lo) true true (cnt dt 24) (nI 0) sh) H := hP
    have hD : va_D A (mW k q wk (layN 24 (cpL 24 dt lo) ((cnt dt 24 * (sh - 500)) / 500) (cpD 24 dt wk lg) dk) (cpD 24 dt wk lg) (va_up (clr b dt) b false) (cpL 24 dt lo) true true (cnt dt 24) (nI 0) sh) := hD
    rw [clr_s] at hP hD
    refine lv_iinc (v := (nI (b + 1))) (lv' := [(2, .int (nI (b + 1))), (0, .ref (q 7))]) hx hb d_Model_commit_131 hl (k := 1) rfl (nI_add _ 1) (by decide) rfl (fun ls hl => ?_)
    refine lv_goto (tgt := 118) hx hb d_Model_commit_134 (by decide) ?_
    exact ih _ _ _ hP hD hS (lv_sub hl [1, 0] rfl)
  · intro H locs ls hP hD hS hl
    have hP : va_P D classes (mW k q wk (layN 24 (cpL 24 dt lo) ((cnt dt 24 * (sh - 500)) / 500) (cpD 24 dt wk lg) dk) (cpD 24 dt wk lg) (clr 24 dt) (cpL 24 dt lo) true true (cnt dt 24) (nI 0) sh) H := hP
    have hD : va_D A (mW k q wk (layN 24 (cpL 24 dt lo) ((cnt dt 24 * (sh - 500)) / 500) (cpD 24 dt wk lg) dk) (cpD 24 dt wk lg) (clr 24 dt) (cpL 24 dt lo) true true (cnt dt 24) (nI 0) sh) := hD
    have hl : lv_has ls 3 [(0, .ref (q 7)), (2, .int (nI 24))] := hl
    refine lv_iload_n hx hb d_Model_commit_118 rfl (lv_at hl 1 rfl) ?_
    refine lv_bipush (v := (nI 24)) hx hb d_Model_commit_119 (by decide) ?_
    refine my_icmpge (tgt := 137) hx hb (x := 24) (y := 24) (by omega) (by omega) d_Model_commit_121 (by decide) (fun c_121 => ?_) (fun c_121 => absurd c_121 (by omega))
    refine lv_aload_n hx hb d_Model_commit_137 rfl (lv_at hl 0 rfl) ?_
    refine va_get (D := D) (ci := 2) (v := .int (bI true)) (C := R_Model) (T := F_Model) (N := 10) hx hb htw i_Model hown hK hP 0 rfl rfl 5 (by decide) (htw _ tw_157) (fun _ h9 => h9) rfl d_Model_commit_138 ?_
    refine my_ifne (tgt := 148) hx hb d_Model_commit_141 (by decide) (fun _ => ?_) (fun c => absurd c (by decide))
    refine lv_iconst (v := (nI 0)) hx hb d_Model_commit_148 (by decide) ?_
    refine lv_as (y := (bI false)) rfl ?_
    exact ret_z hx hb hr hlocks hK hP hD hS (v := false) rfl d_Model_commit_149
set_option maxHeartbeats 4000000 in
set_option maxRecDepth 100000 in
theorem c_Model_commit_C (l : Launch) (D : va_G) (k : Nat → ClassId) (q : Nat → Nat) (wk : Nat → Int8) (dk : Nat → Int8) (lg : Nat → Int8) (dt : Nat → Bool) (lo : Nat → Bool) (mk : Bool) (la : Nat) (lf : Int32) (sh : Nat) (hlf : lf ≤ 0) : Ci l D (tyK k) y_Model_commit k_Model_commit ({ frames := 2, cells := 0, slots := 0, locals := 46 }) [.ref (q 7)] (mW k q wk dk lg dt lo false mk la lf sh) (bI true) (mW k q wk (layN 24 (cpL 24 dt lo) (cnt dt 24) (cpD 24 dt wk lg) dk) (cpD 24 dt wk lg) (clr 24 dt) (cpL 24 dt lo) false false (cnt dt 24) (-1) sh) := by
  refine open_i (by decide) (Nat.le_of_ble_eq_true rfl) ?_
  intro pg ev s m below meth c A hx hb hml hr hlocks htw hown hnm hA hS hP hK hD hN ls hl
  have hown : s.vm.findClass R_Model = some m.cls := hown
  have hl : lv_has ls 3 [(0, .ref (q 7))] := hl
  have hc24 := cnt_le dt 24
  refine lv_aload_n hx hb d_Model_commit_0 rfl (lv_at hl 0 rfl) ?_
  refine va_get (D := D) (ci := 2) (v := .int (bI false)) (C := R_Model) (T := F_Model) (N := 10) hx hb htw i_Model hown hK hP 0 rfl rfl 5 (by decide) (htw _ tw_157) (fun _ h9 => h9) rfl d_Model_commit_1 ?_
  refine my_ifeq (tgt := 9) hx hb d_Model_commit_4 (by decide) (fun _ => ?_) (fun c => absurd c (by decide))
  refine lv_aload_n hx hb d_Model_commit_9 rfl (lv_at hl 0 rfl) ?_
  refine call_Vi (n := 0) (As := []) (ws' := mW k q wk dk lg dt lo false mk la lf sh) ⟨hx, hb, hml, hown, htw⟩ (c_Model_many l D k q wk dk lg dt lo false mk la lf sh) (in_V tw_209 tw_211 tw_3 tw_11 tw_212) (by decide +kernel) ⟨rfl, rfl, Nat.le_of_ble_eq_true rfl, Nat.le_of_ble_eq_true rfl⟩ hK hN hP hD hS hA [0, 1, 2, 3, 4, 5] [] [0, 1, 2, 3, 4, 5] rfl rfl ([]) rfl rfl (by decide) rfl rfl 2 rfl 0 rfl hl.1 rfl rfl (Nat.le_of_ble_eq_true rfl) d_Model_commit_10 ⟨Nat.zero_le _, Nat.zero_le _⟩ (fun H locs hP hD hS => ?_)
  refine lv_istore_n (lv' := [(1, .int (nI (cnt dt 24))), (0, .ref (q 7))]) hx hb d_Model_commit_13 rfl hl (by decide) rfl (fun ls hl => ?_)
  refine lv_aload_n hx hb d_Model_commit_14 rfl (lv_at hl 1 rfl) ?_
  refine lv_iload_n hx hb d_Model_commit_15 rfl (lv_at hl 0 rfl) ?_
  refine va_put (D := D) (ci := 2) (v := .int (nI (cnt dt 24))) (ty := .int) (C := R_Model) (T := F_Model) (N := 10) hx hb htw i_Model t_Model t_Model_ok n_Model hown hK hP hD hS 0 rfl rfl 7 (by decide) (htw _ tw_159) (fun _ h9 => h9) rfl (by decide +kernel) rfl rfl (Nat.le_of_ble_eq_true rfl) d_Model_commit_16 (fun H locs hP hD hS => ?_)
  have hP : va_P D classes (mW k q wk dk lg dt lo false mk (cnt dt 24) lf sh) H := hP
  have hD : va_D A (mW k q wk dk lg dt lo false mk (cnt dt 24) lf sh) := hD
  refine lv_aload_n hx hb d_Model_commit_19 rfl (lv_at hl 1 rfl) ?_
  refine lv_aload_n hx hb d_Model_commit_20 rfl (lv_at hl 1 rfl) ?_
  refine va_get (D := D) (ci := 2) (v := .int lf) (C := R_Model) (T := F_Model) (N := 10) hx hb htw i_Model hown hK hP 0 rfl rfl 8 (by decide) (htw _ tw_160) (fun _ h9 => h9) rfl d_Model_commit_21 ?_
  refine lv_if_le (tgt := 36) hx hb d_Model_commit_24 (by decide) (fun c_24 => ?_) (fun c_24 => absurd hlf c_24)
  refine lv_iconst (v := -1) hx hb d_Model_commit_36 (by decide) ?_
  refine va_put (D := D) (ci := 2) (v := .int (-1)) (ty := .int) (C := R_Model) (T := F_Model) (N := 10) hx hb htw i_Model t_Model t_Model_ok n_Model hown hK hP hD hS 0 rfl rfl 8 (by decide) (htw _ tw_160) (fun _ h9 => h9) rfl (by decide +kernel) rfl rfl (Nat.le_of_ble_eq_true rfl) d_Model_commit_37 (fun H locs hP hD hS => ?_)
  have hP : va_P D classes (mW k q wk dk lg dt lo false mk (cnt dt 24) (-1) sh) H := hP
  have hD : va_D A (mW k q wk dk lg dt lo false mk (cnt dt 24) (-1) sh) := hD
  refine lv_aload_n hx hb d_Model_commit_40 rfl (lv_at hl 1 rfl) ?_
  refine lv_aload_n hx hb d_Model_commit_41 rfl (lv_at hl 1 rfl) ?_
  refine va_get (D := D) (ci := 2) (v := .int (-1)) (C := R_Model) (T := F_Model) (N := 10) hx hb htw i_Model hown hK hP 0 rfl rfl 8 (by decide) (htw _ tw_160) (fun _ h9 => h9) rfl d_Model_commit_42 ?_
  refine lv_if_ne (tgt := 52) hx hb d_Model_commit_45 (by decide) (fun c_45 => ?_) (fun c_45 => absurd c_45 (by decide))
  refine lv_iconst (v := (nI 0)) hx hb d_Model_commit_52 (by decide) ?_
  refine lv_as (y := (bI false)) rfl ?_
  refine va_put (D := D) (ci := 2) (v := .int (bI false)) (ty := .boolean) (C := R_Model) (T := F_Model) (N := 10) hx hb htw i_Model t_Model t_Model_ok n_Model hown hK hP hD hS 0 rfl rfl 5 (by decide) (htw _ tw_157) (fun _ h9 => h9) rfl (by decide +kernel) (bI_nar _) (bI_fit _) (Nat.le_of_ble_eq_true rfl) d_Model_commit_53 (fun H locs hP hD hS => ?_)
  have hP : va_P D classes (mW k q wk dk lg dt lo false mk (cnt dt 24) (-1) sh) H := hP
  have hD : va_D A (mW k q wk dk lg dt lo false mk (cnt dt 24) (-1) sh) := hD
  refine lv_aload_n hx hb d_Model_commit_56 rfl (lv_at hl 1 rfl) ?_
  refine va_get (D := D) (ci := 2) (v := .int (bI false)) (C := R_Model) (T := F_Model) (N := 10) hx hb htw i_Model hown hK hP 0 rfl rfl 5 (by decide) (htw _ tw_157) (fun _ h9 => h9) rfl d_Model_commit_57 ?_
  refine my_ifeq (tgt := 75) hx hb d_Model_commit_60 (by decide) (fun _ => ?_) (fun c => absurd c (by decide))
  refine lv_aload_n hx hb d_Model_commit_75 rfl (lv_at hl 1 rfl) ?_
  refine call_Vv (n := 0) (As := []) (ws' := mW k q wk dk (cpD 24 dt wk lg) dt (cpL 24 dt lo) false true (cnt dt 24) (-1) sh) ⟨hx, hb, hml, hown, htw⟩ (c_Model_note l D k q wk dk lg dt lo false mk (cnt dt 24) (-1) sh) (in_V tw_213 tw_215 tw_4 tw_11 tw_216) (by decide +kernel) ⟨rfl, rfl, Nat.le_of_ble_eq_true rfl, Nat.le_of_ble_eq_true rfl⟩ hK hN hP hD hS hA [0, 1, 2, 3, 4, 5] [] [0, 1, 2, 3, 4, 5] rfl rfl ([]) rfl rfl (by decide) rfl rfl 2 rfl 0 rfl hl.1 rfl rfl (Nat.le_of_ble_eq_true rfl) d_Model_commit_76 ⟨Nat.zero_le _, Nat.zero_le _⟩ (fun H locs hP hD hS => ?_)
  refine lv_aload_n hx hb d_Model_commit_79 rfl (lv_at hl 1 rfl) ?_
  refine lv_aload_n hx hb d_Model_commit_80 rfl (lv_at hl 1 rfl) ?_
  refine va_get (D := D) (ci := 2) (v := .int (bI false)) (C := R_Model) (T := F_Model) (N := 10) hx hb htw i_Model hown hK hP 0 rfl rfl 5 (by decide) (htw _ tw_157) (fun _ h9 => h9) rfl d_Model_commit_81 ?_
  refine my_ifeq (tgt := 104) hx hb d_Model_commit_84 (by decide) (fun _ => ?_) (fun c => absurd c (by decide))
  refine lv_iload_n hx hb d_Model_commit_104 rfl (lv_at hl 0 rfl) ?_
  refine call_Vv (n := 1) (As := [.int (nI (cnt dt 24))]) (ws' := mW k q wk (layN 24 (cpL 24 dt lo) (cnt dt 24) (cpD 24 dt wk lg) dk) (cpD 24 dt wk lg) dt (cpL 24 dt lo) false true (cnt dt 24) (-1) sh) ⟨hx, hb, hml, hown, htw⟩ (c_Model_lay l D k q wk dk (cpD 24 dt wk lg) dt (cpL 24 dt lo) false true (cnt dt 24) (-1) sh (cnt dt 24) (by omega)) (in_V tw_220 tw_222 tw_5 tw_11 tw_223) (by decide +kernel) ⟨rfl, rfl, Nat.le_of_ble_eq_true rfl, Nat.le_of_ble_eq_true rfl⟩ hK hN hP hD hS hA [0, 1, 2, 3, 4, 5] [] [0, 1, 2, 3, 4, 5] rfl rfl ([]) rfl rfl (by decide) rfl rfl 2 rfl 0 rfl hl.1 rfl rfl (Nat.le_of_ble_eq_true rfl) d_Model_commit_105 ⟨Nat.zero_le _, Nat.zero_le _⟩ (fun H locs hP hD hS => ?_)
  refine lv_aload_n hx hb d_Model_commit_108 rfl (lv_at hl 1 rfl) ?_
  refine lv_aload_n hx hb d_Model_commit_109 rfl (lv_at hl 1 rfl) ?_
  refine va_get (D := D) (ci := 2) (v := .int (bI false)) (C := R_Model) (T := F_Model) (N := 10) hx hb htw i_Model hown hK hP 0 rfl rfl 5 (by decide) (htw _ tw_157) (fun _ h9 => h9) rfl d_Model_commit_110 ?_
  refine va_put (D := D) (ci := 2) (v := .int (bI false)) (ty := .boolean) (C := R_Model) (T := F_Model) (N := 10) hx hb htw i_Model t_Model t_Model_ok n_Model hown hK hP hD hS 0 rfl rfl 6 (by decide) (htw _ tw_158) (fun _ h9 => h9) rfl (by decide +kernel) (bI_nar _) (bI_fit _) (Nat.le_of_ble_eq_true rfl) d_Model_commit_113 (fun H locs hP hD hS => ?_)
  have hP : va_P D classes (mW k q wk (layN 24 (cpL 24 dt lo) (cnt dt 24) (cpD 24 dt wk lg) dk) (cpD 24 dt wk lg) dt (cpL 24 dt lo) false false (cnt dt 24) (-1) sh) H := hP
  have hD : va_D A (mW k q wk (layN 24 (cpL 24 dt lo) (cnt dt 24) (cpD 24 dt wk lg) dk) (cpD 24 dt wk lg) dt (cpL 24 dt lo) false false (cnt dt 24) (-1) sh) := hD
  refine lv_iconst (v := (nI 0)) hx hb d_Model_commit_116 (by decide) ?_
  refine lv_istore_n (lv' := [(2, .int (nI 0)), (1, .int (nI (cnt dt 24))), (0, .ref (q 7))]) hx hb d_Model_commit_117 rfl hl (by decide) rfl (fun ls hl => ?_)
  have hP : va_P D classes (mW k q wk (layN 24 (cpL 24 dt lo) (cnt dt 24) (cpD 24 dt wk lg) dk) (cpD 24 dt wk lg) (clr 0 dt) (cpL 24 dt lo) false false (cnt dt 24) (-1) sh) H := by rw [clr_0]; exact hP
  have hD : va_D A (mW k q wk (layN 24 (cpL 24 dt lo) (cnt dt 24) (cpD 24 dt wk lg) dk) (cpD 24 dt wk lg) (clr 0 dt) (cpL 24 dt lo) false false (cnt dt 24) (-1) sh) := by rw [clr_0]; exact hD
  have hl := lv_sub hl [2, 0] rfl
  refine loopW (nL := 3) (D := D) (A := A) (24) (fun b => mW k q wk (layN 24 (cpL 24 dt lo) (cnt dt 24) (cpD 24 dt wk lg) dk) (cpD 24 dt wk lg) (clr b dt) (cpL 24 dt lo) false false (cnt dt 24) (-1) sh) (fun b => [(0, .ref (q 7)), (2, .int (nI b))]) ?_ ?_ 0 (Nat.zero_le _) _ _ _ hP hD hS hl
  · intro b hlt ih H locs ls hP hD hS hl
    have hP : va_P D classes (mW k q wk (layN 24 (cpL 24 dt lo) (cnt dt 24) (cpD 24 dt wk lg) dk) (cpD 24 dt wk lg) (clr b dt) (cpL 24 dt lo) false false (cnt dt 24) (-1) sh) H := hP
    have hD : va_D A (mW k q wk (layN 24 (cpL 24 dt lo) (cnt dt 24) (cpD 24 dt wk lg) dk) (cpD 24 dt wk lg) (clr b dt) (cpL 24 dt lo) false false (cnt dt 24) (-1) sh) := hD
    have hl : lv_has ls 3 [(0, .ref (q 7)), (2, .int (nI b))] := hl
    refine lv_iload_n hx hb d_Model_commit_118 rfl (lv_at hl 1 rfl) ?_
    refine lv_bipush (v := (nI 24)) hx hb d_Model_commit_119 (by decide) ?_
    refine my_icmpge (tgt := 137) hx hb (x := b) (y := 24) (by omega) (by omega) d_Model_commit_121 (by decide) (fun c_121 => absurd c_121 (by omega)) (fun c_121 => ?_)
    refine lv_aload_n hx hb d_Model_commit_124 rfl (lv_at hl 0 rfl) ?_
    refine va_get (D := D) (ci := 2) (v := .ref (q 11)) (C := R_Model) (T := F_Model) (N := 10) hx hb htw i_Model hown hK hP 0 rfl rfl 3 (by decide) (htw _ tw_155) (fun _ h9 => h9) rfl d_Model_commit_125 ?_
    refine lv_iload_n hx hb d_Model_commit_128 rfl (lv_at hl 1 rfl) ?_
    refine lv_iconst (v := (nI 0)) hx hb d_Model_commit_129 (by decide) ?_
    refine lv_as (y := (bI false)) rfl ?_
    refine my_zast hx hb hK hP hD hS 4 1 rfl rfl (i := b) (v := false) (by omega) (by decide) d_Model_commit_130 (fun H locs hP hD hS => ?_)
    have hP : va_P D classes (mW k q wk (layN 24 (cpL 24 dt lo) (cnt dt 24) (cpD 24 dt wk lg) dk) (cpD 24 dt wk lg) (va_up (clr b dt) b false) (cpL 24 dt lo) false false (cnt dt 24) (-1) sh) H := hP
    have hD : va_D A (mW k q wk (layN 24 (cpL 24 dt lo) (cnt dt 24) (cpD 24 dt wk lg) dk) (cpD 24 dt wk lg) (va_up (clr b dt) b false) (cpL 24 dt lo) false false (cnt dt 24) (-1) sh) := hD
    rw [clr_s] at hP hD
    refine lv_iinc (v := (nI (b + 1))) (lv' := [(2, .int (nI (b + 1))), (0, .ref (q 7))]) hx hb d_Model_commit_131 hl (k := 1) rfl (nI_add _ 1) (by decide) rfl (fun ls hl => ?_)
    refine lv_goto (tgt := 118) hx hb d_Model_commit_134 (by decide) ?_
    exact ih _ _ _ hP hD hS (lv_sub hl [1, 0] rfl)
  · intro H locs ls hP hD hS hl
    have hP : va_P D classes (mW k q wk (layN 24 (cpL 24 dt lo) (cnt dt 24) (cpD 24 dt wk lg) dk) (cpD 24 dt wk lg) (clr 24 dt) (cpL 24 dt lo) false false (cnt dt 24) (-1) sh) H := hP
    have hD : va_D A (mW k q wk (layN 24 (cpL 24 dt lo) (cnt dt 24) (cpD 24 dt wk lg) dk) (cpD 24 dt wk lg) (clr 24 dt) (cpL 24 dt lo) false false (cnt dt 24) (-1) sh) := hD
    have hl : lv_has ls 3 [(0, .ref (q 7)), (2, .int (nI 24))] := hl
    refine lv_iload_n hx hb d_Model_commit_118 rfl (lv_at hl 1 rfl) ?_
    refine lv_bipush (v := (nI 24)) hx hb d_Model_commit_119 (by decide) ?_
    refine my_icmpge (tgt := 137) hx hb (x := 24) (y := 24) (by omega) (by omega) d_Model_commit_121 (by decide) (fun c_121 => ?_) (fun c_121 => absurd c_121 (by omega))
    refine lv_aload_n hx hb d_Model_commit_137 rfl (lv_at hl 0 rfl) ?_
    refine va_get (D := D) (ci := 2) (v := .int (bI false)) (C := R_Model) (T := F_Model) (N := 10) hx hb htw i_Model hown hK hP 0 rfl rfl 5 (by decide) (htw _ tw_157) (fun _ h9 => h9) rfl d_Model_commit_138 ?_
    refine my_ifne (tgt := 148) hx hb d_Model_commit_141 (by decide) (fun c => absurd c (by decide)) (fun _ => ?_)
    refine lv_iconst (v := (nI 1)) hx hb d_Model_commit_144 (by decide) ?_
    refine lv_goto (tgt := 149) hx hb d_Model_commit_145 (by decide) ?_
    refine lv_as (y := (bI true)) rfl ?_
    exact ret_z hx hb hr hlocks hK hP hD hS (v := true) rfl d_Model_commit_149
set_option maxHeartbeats 4000000 in
set_option maxRecDepth 100000 in
theorem c_Model_commit_E (l : Launch) (D : va_G) (k : Nat → ClassId) (q : Nat → Nat) (wk : Nat → Int8) (dk : Nat → Int8) (lg : Nat → Int8) (dt : Nat → Bool) (lo : Nat → Bool) (mk : Bool) (la : Nat) (sh : Nat) (un : Nat) (hun : 2 ≤ un) (hu2 : un ≤ 1000) : Ci l D (tyK k) y_Model_commit k_Model_commit ({ frames := 2, cells := 0, slots := 0, locals := 46 }) [.ref (q 7)] (mW k q wk dk lg dt lo false mk la (nI un) sh) (bI true) (mW k q wk (layN 24 (cpL 24 dt lo) (cnt dt 24) (cpD 24 dt wk lg) dk) (cpD 24 dt wk lg) (clr 24 dt) (cpL 24 dt lo) false false (cnt dt 24) (nI (un - 1)) sh) := by
  refine open_i (by decide) (Nat.le_of_ble_eq_true rfl) ?_
  intro pg ev s m below meth c A hx hb hml hr hlocks htw hown hnm hA hS hP hK hD hN ls hl
  have hown : s.vm.findClass R_Model = some m.cls := hown
  have hl : lv_has ls 3 [(0, .ref (q 7))] := hl
  have hc24 := cnt_le dt 24
  refine lv_aload_n hx hb d_Model_commit_0 rfl (lv_at hl 0 rfl) ?_
  refine va_get (D := D) (ci := 2) (v := .int (bI false)) (C := R_Model) (T := F_Model) (N := 10) hx hb htw i_Model hown hK hP 0 rfl rfl 5 (by decide) (htw _ tw_157) (fun _ h9 => h9) rfl d_Model_commit_1 ?_
  refine my_ifeq (tgt := 9) hx hb d_Model_commit_4 (by decide) (fun _ => ?_) (fun c => absurd c (by decide))
  refine lv_aload_n hx hb d_Model_commit_9 rfl (lv_at hl 0 rfl) ?_
  refine call_Vi (n := 0) (As := []) (ws' := mW k q wk dk lg dt lo false mk la (nI un) sh) ⟨hx, hb, hml, hown, htw⟩ (c_Model_many l D k q wk dk lg dt lo false mk la (nI un) sh) (in_V tw_209 tw_211 tw_3 tw_11 tw_212) (by decide +kernel) ⟨rfl, rfl, Nat.le_of_ble_eq_true rfl, Nat.le_of_ble_eq_true rfl⟩ hK hN hP hD hS hA [0, 1, 2, 3, 4, 5] [] [0, 1, 2, 3, 4, 5] rfl rfl ([]) rfl rfl (by decide) rfl rfl 2 rfl 0 rfl hl.1 rfl rfl (Nat.le_of_ble_eq_true rfl) d_Model_commit_10 ⟨Nat.zero_le _, Nat.zero_le _⟩ (fun H locs hP hD hS => ?_)
  refine lv_istore_n (lv' := [(1, .int (nI (cnt dt 24))), (0, .ref (q 7))]) hx hb d_Model_commit_13 rfl hl (by decide) rfl (fun ls hl => ?_)
  refine lv_aload_n hx hb d_Model_commit_14 rfl (lv_at hl 1 rfl) ?_
  refine lv_iload_n hx hb d_Model_commit_15 rfl (lv_at hl 0 rfl) ?_
  refine va_put (D := D) (ci := 2) (v := .int (nI (cnt dt 24))) (ty := .int) (C := R_Model) (T := F_Model) (N := 10) hx hb htw i_Model t_Model t_Model_ok n_Model hown hK hP hD hS 0 rfl rfl 7 (by decide) (htw _ tw_159) (fun _ h9 => h9) rfl (by decide +kernel) rfl rfl (Nat.le_of_ble_eq_true rfl) d_Model_commit_16 (fun H locs hP hD hS => ?_)
  have hP : va_P D classes (mW k q wk dk lg dt lo false mk (cnt dt 24) (nI un) sh) H := hP
  have hD : va_D A (mW k q wk dk lg dt lo false mk (cnt dt 24) (nI un) sh) := hD
  refine lv_aload_n hx hb d_Model_commit_19 rfl (lv_at hl 1 rfl) ?_
  refine lv_aload_n hx hb d_Model_commit_20 rfl (lv_at hl 1 rfl) ?_
  refine va_get (D := D) (ci := 2) (v := .int (nI un)) (C := R_Model) (T := F_Model) (N := 10) hx hb htw i_Model hown hK hP 0 rfl rfl 8 (by decide) (htw _ tw_160) (fun _ h9 => h9) rfl d_Model_commit_21 ?_
  refine lv_if_le (tgt := 36) hx hb d_Model_commit_24 (by decide) (fun c_24 => absurd c_24 (nI_nle (by omega) (by omega))) (fun c_24 => ?_)
  refine lv_aload_n hx hb d_Model_commit_27 rfl (lv_at hl 1 rfl) ?_
  refine va_get (D := D) (ci := 2) (v := .int (nI un)) (C := R_Model) (T := F_Model) (N := 10) hx hb htw i_Model hown hK hP 0 rfl rfl 8 (by decide) (htw _ tw_160) (fun _ h9 => h9) rfl d_Model_commit_28 ?_
  refine lv_iconst (v := (nI 1)) hx hb d_Model_commit_31 (by decide) ?_
  refine my_isub hx hb (x := un) (y := 1) (by omega) d_Model_commit_32 ?_
  refine lv_goto (tgt := 37) hx hb d_Model_commit_33 (by decide) ?_
  refine va_put (D := D) (ci := 2) (v := .int (nI (un - 1))) (ty := .int) (C := R_Model) (T := F_Model) (N := 10) hx hb htw i_Model t_Model t_Model_ok n_Model hown hK hP hD hS 0 rfl rfl 8 (by decide) (htw _ tw_160) (fun _ h9 => h9) rfl (by decide +kernel) rfl rfl (Nat.le_of_ble_eq_true rfl) d_Model_commit_37 (fun H locs hP hD hS => ?_)
  have hP : va_P D classes (mW k q wk dk lg dt lo false mk (cnt dt 24) (nI (un - 1)) sh) H := hP
  have hD : va_D A (mW k q wk dk lg dt lo false mk (cnt dt 24) (nI (un - 1)) sh) := hD
  refine lv_aload_n hx hb d_Model_commit_40 rfl (lv_at hl 1 rfl) ?_
  refine lv_aload_n hx hb d_Model_commit_41 rfl (lv_at hl 1 rfl) ?_
  refine va_get (D := D) (ci := 2) (v := .int (nI (un - 1))) (C := R_Model) (T := F_Model) (N := 10) hx hb htw i_Model hown hK hP 0 rfl rfl 8 (by decide) (htw _ tw_160) (fun _ h9 => h9) rfl d_Model_commit_42 ?_
  refine lv_if_ne (tgt := 52) hx hb d_Model_commit_45 (by decide) (fun c_45 => ?_) (fun c_45 => absurd c_45 (nI_ne0 (by omega) (by omega)))
  refine lv_iconst (v := (nI 0)) hx hb d_Model_commit_52 (by decide) ?_
  refine lv_as (y := (bI false)) rfl ?_
  refine va_put (D := D) (ci := 2) (v := .int (bI false)) (ty := .boolean) (C := R_Model) (T := F_Model) (N := 10) hx hb htw i_Model t_Model t_Model_ok n_Model hown hK hP hD hS 0 rfl rfl 5 (by decide) (htw _ tw_157) (fun _ h9 => h9) rfl (by decide +kernel) (bI_nar _) (bI_fit _) (Nat.le_of_ble_eq_true rfl) d_Model_commit_53 (fun H locs hP hD hS => ?_)
  have hP : va_P D classes (mW k q wk dk lg dt lo false mk (cnt dt 24) (nI (un - 1)) sh) H := hP
  have hD : va_D A (mW k q wk dk lg dt lo false mk (cnt dt 24) (nI (un - 1)) sh) := hD
  refine lv_aload_n hx hb d_Model_commit_56 rfl (lv_at hl 1 rfl) ?_
  refine va_get (D := D) (ci := 2) (v := .int (bI false)) (C := R_Model) (T := F_Model) (N := 10) hx hb htw i_Model hown hK hP 0 rfl rfl 5 (by decide) (htw _ tw_157) (fun _ h9 => h9) rfl d_Model_commit_57 ?_
  refine my_ifeq (tgt := 75) hx hb d_Model_commit_60 (by decide) (fun _ => ?_) (fun c => absurd c (by decide))
  refine lv_aload_n hx hb d_Model_commit_75 rfl (lv_at hl 1 rfl) ?_
  refine call_Vv (n := 0) (As := []) (ws' := mW k q wk dk (cpD 24 dt wk lg) dt (cpL 24 dt lo) false true (cnt dt 24) (nI (un - 1)) sh) ⟨hx, hb, hml, hown, htw⟩ (c_Model_note l D k q wk dk lg dt lo false mk (cnt dt 24) (nI (un - 1)) sh) (in_V tw_213 tw_215 tw_4 tw_11 tw_216) (by decide +kernel) ⟨rfl, rfl, Nat.le_of_ble_eq_true rfl, Nat.le_of_ble_eq_true rfl⟩ hK hN hP hD hS hA [0, 1, 2, 3, 4, 5] [] [0, 1, 2, 3, 4, 5] rfl rfl ([]) rfl rfl (by decide) rfl rfl 2 rfl 0 rfl hl.1 rfl rfl (Nat.le_of_ble_eq_true rfl) d_Model_commit_76 ⟨Nat.zero_le _, Nat.zero_le _⟩ (fun H locs hP hD hS => ?_)
  refine lv_aload_n hx hb d_Model_commit_79 rfl (lv_at hl 1 rfl) ?_
  refine lv_aload_n hx hb d_Model_commit_80 rfl (lv_at hl 1 rfl) ?_
  refine va_get (D := D) (ci := 2) (v := .int (bI false)) (C := R_Model) (T := F_Model) (N := 10) hx hb htw i_Model hown hK hP 0 rfl rfl 5 (by decide) (htw _ tw_157) (fun _ h9 => h9) rfl d_Model_commit_81 ?_
  refine my_ifeq (tgt := 104) hx hb d_Model_commit_84 (by decide) (fun _ => ?_) (fun c => absurd c (by decide))
  refine lv_iload_n hx hb d_Model_commit_104 rfl (lv_at hl 0 rfl) ?_
  refine call_Vv (n := 1) (As := [.int (nI (cnt dt 24))]) (ws' := mW k q wk (layN 24 (cpL 24 dt lo) (cnt dt 24) (cpD 24 dt wk lg) dk) (cpD 24 dt wk lg) dt (cpL 24 dt lo) false true (cnt dt 24) (nI (un - 1)) sh) ⟨hx, hb, hml, hown, htw⟩ (c_Model_lay l D k q wk dk (cpD 24 dt wk lg) dt (cpL 24 dt lo) false true (cnt dt 24) (nI (un - 1)) sh (cnt dt 24) (by omega)) (in_V tw_220 tw_222 tw_5 tw_11 tw_223) (by decide +kernel) ⟨rfl, rfl, Nat.le_of_ble_eq_true rfl, Nat.le_of_ble_eq_true rfl⟩ hK hN hP hD hS hA [0, 1, 2, 3, 4, 5] [] [0, 1, 2, 3, 4, 5] rfl rfl ([]) rfl rfl (by decide) rfl rfl 2 rfl 0 rfl hl.1 rfl rfl (Nat.le_of_ble_eq_true rfl) d_Model_commit_105 ⟨Nat.zero_le _, Nat.zero_le _⟩ (fun H locs hP hD hS => ?_)
  refine lv_aload_n hx hb d_Model_commit_108 rfl (lv_at hl 1 rfl) ?_
  refine lv_aload_n hx hb d_Model_commit_109 rfl (lv_at hl 1 rfl) ?_
  refine va_get (D := D) (ci := 2) (v := .int (bI false)) (C := R_Model) (T := F_Model) (N := 10) hx hb htw i_Model hown hK hP 0 rfl rfl 5 (by decide) (htw _ tw_157) (fun _ h9 => h9) rfl d_Model_commit_110 ?_
  refine va_put (D := D) (ci := 2) (v := .int (bI false)) (ty := .boolean) (C := R_Model) (T := F_Model) (N := 10) hx hb htw i_Model t_Model t_Model_ok n_Model hown hK hP hD hS 0 rfl rfl 6 (by decide) (htw _ tw_158) (fun _ h9 => h9) rfl (by decide +kernel) (bI_nar _) (bI_fit _) (Nat.le_of_ble_eq_true rfl) d_Model_commit_113 (fun H locs hP hD hS => ?_)
  have hP : va_P D classes (mW k q wk (layN 24 (cpL 24 dt lo) (cnt dt 24) (cpD 24 dt wk lg) dk) (cpD 24 dt wk lg) dt (cpL 24 dt lo) false false (cnt dt 24) (nI (un - 1)) sh) H := hP
  have hD : va_D A (mW k q wk (layN 24 (cpL 24 dt lo) (cnt dt 24) (cpD 24 dt wk lg) dk) (cpD 24 dt wk lg) dt (cpL 24 dt lo) false false (cnt dt 24) (nI (un - 1)) sh) := hD
  refine lv_iconst (v := (nI 0)) hx hb d_Model_commit_116 (by decide) ?_
  refine lv_istore_n (lv' := [(2, .int (nI 0)), (1, .int (nI (cnt dt 24))), (0, .ref (q 7))]) hx hb d_Model_commit_117 rfl hl (by decide) rfl (fun ls hl => ?_)
  have hP : va_P D classes (mW k q wk (layN 24 (cpL 24 dt lo) (cnt dt 24) (cpD 24 dt wk lg) dk) (cpD 24 dt wk lg) (clr 0 dt) (cpL 24 dt lo) false false (cnt dt 24) (nI (un - 1)) sh) H := by rw [clr_0]; exact hP
  have hD : va_D A (mW k q wk (layN 24 (cpL 24 dt lo) (cnt dt 24) (cpD 24 dt wk lg) dk) (cpD 24 dt wk lg) (clr 0 dt) (cpL 24 dt lo) false false (cnt dt 24) (nI (un - 1)) sh) := by rw [clr_0]; exact hD
  have hl := lv_sub hl [2, 0] rfl
  refine loopW (nL := 3) (D := D) (A := A) (24) (fun b => mW k q wk (layN 24 (cpL 24 dt lo) (cnt dt 24) (cpD 24 dt wk lg) dk) (cpD 24 dt wk lg) (clr b dt) (cpL 24 dt lo) false false (cnt dt 24) (nI (un - 1)) sh) (fun b => [(0, .ref (q 7)), (2, .int (nI b))]) ?_ ?_ 0 (Nat.zero_le _) _ _ _ hP hD hS hl
  · intro b hlt ih H locs ls hP hD hS hl
    have hP : va_P D classes (mW k q wk (layN 24 (cpL 24 dt lo) (cnt dt 24) (cpD 24 dt wk lg) dk) (cpD 24 dt wk lg) (clr b dt) (cpL 24 dt lo) false false (cnt dt 24) (nI (un - 1)) sh) H := hP
    have hD : va_D A (mW k q wk (layN 24 (cpL 24 dt lo) (cnt dt 24) (cpD 24 dt wk lg) dk) (cpD 24 dt wk lg) (clr b dt) (cpL 24 dt lo) false false (cnt dt 24) (nI (un - 1)) sh) := hD
    have hl : lv_has ls 3 [(0, .ref (q 7)), (2, .int (nI b))] := hl
    refine lv_iload_n hx hb d_Model_commit_118 rfl (lv_at hl 1 rfl) ?_
    refine lv_bipush (v := (nI 24)) hx hb d_Model_commit_119 (by decide) ?_
    refine my_icmpge (tgt := 137) hx hb (x := b) (y := 24) (by omega) (by omega) d_Model_commit_121 (by decide) (fun c_121 => absurd c_121 (by omega)) (fun c_121 => ?_)
    refine lv_aload_n hx hb d_Model_commit_124 rfl (lv_at hl 0 rfl) ?_
    refine va_get (D := D) (ci := 2) (v := .ref (q 11)) (C := R_Model) (T := F_Model) (N := 10) hx hb htw i_Model hown hK hP 0 rfl rfl 3 (by decide) (htw _ tw_155) (fun _ h9 => h9) rfl d_Model_commit_125 ?_
    refine lv_iload_n hx hb d_Model_commit_128 rfl (lv_at hl 1 rfl) ?_
    refine lv_iconst (v := (nI 0)) hx hb d_Model_commit_129 (by decide) ?_
    refine lv_as (y := (bI false)) rfl ?_
    refine my_zast hx hb hK hP hD hS 4 1 rfl rfl (i := b) (v := false) (by omega) (by decide) d_Model_commit_130 (fun H locs hP hD hS => ?_)
    have hP : va_P D classes (mW k q wk (layN 24 (cpL 24 dt lo) (cnt dt 24) (cpD 24 dt wk lg) dk) (cpD 24 dt wk lg) (va_up (clr b dt) b false) (cpL 24 dt lo) false false (cnt dt 24) (nI (un - 1)) sh) H := hP
    have hD : va_D A (mW k q wk (layN 24 (cpL 24 dt lo) (cnt dt 24) (cpD 24 dt wk lg) dk) (cpD 24 dt wk lg) (va_up (clr b dt) b false) (cpL 24 dt lo) false false (cnt dt 24) (nI (un - 1)) sh) := hD
    rw [clr_s] at hP hD
    refine lv_iinc (v := (nI (b + 1))) (lv' := [(2, .int (nI (b + 1))), (0, .ref (q 7))]) hx hb d_Model_commit_131 hl (k := 1) rfl (nI_add _ 1) (by decide) rfl (fun ls hl => ?_)
    refine lv_goto (tgt := 118) hx hb d_Model_commit_134 (by decide) ?_
    exact ih _ _ _ hP hD hS (lv_sub hl [1, 0] rfl)
  · intro H locs ls hP hD hS hl
    have hP : va_P D classes (mW k q wk (layN 24 (cpL 24 dt lo) (cnt dt 24) (cpD 24 dt wk lg) dk) (cpD 24 dt wk lg) (clr 24 dt) (cpL 24 dt lo) false false (cnt dt 24) (nI (un - 1)) sh) H := hP
    have hD : va_D A (mW k q wk (layN 24 (cpL 24 dt lo) (cnt dt 24) (cpD 24 dt wk lg) dk) (cpD 24 dt wk lg) (clr 24 dt) (cpL 24 dt lo) false false (cnt dt 24) (nI (un - 1)) sh) := hD
    have hl : lv_has ls 3 [(0, .ref (q 7)), (2, .int (nI 24))] := hl
    refine lv_iload_n hx hb d_Model_commit_118 rfl (lv_at hl 1 rfl) ?_
    refine lv_bipush (v := (nI 24)) hx hb d_Model_commit_119 (by decide) ?_
    refine my_icmpge (tgt := 137) hx hb (x := 24) (y := 24) (by omega) (by omega) d_Model_commit_121 (by decide) (fun c_121 => ?_) (fun c_121 => absurd c_121 (by omega))
    refine lv_aload_n hx hb d_Model_commit_137 rfl (lv_at hl 0 rfl) ?_
    refine va_get (D := D) (ci := 2) (v := .int (bI false)) (C := R_Model) (T := F_Model) (N := 10) hx hb htw i_Model hown hK hP 0 rfl rfl 5 (by decide) (htw _ tw_157) (fun _ h9 => h9) rfl d_Model_commit_138 ?_
    refine my_ifne (tgt := 148) hx hb d_Model_commit_141 (by decide) (fun c => absurd c (by decide)) (fun _ => ?_)
    refine lv_iconst (v := (nI 1)) hx hb d_Model_commit_144 (by decide) ?_
    refine lv_goto (tgt := 149) hx hb d_Model_commit_145 (by decide) ?_
    refine lv_as (y := (bI true)) rfl ?_
    exact ret_z hx hb hr hlocks hK hP hD hS (v := true) rfl d_Model_commit_149
set_option maxHeartbeats 4000000 in
set_option maxRecDepth 100000 in
theorem c_Model_revert_off (l : Launch) (D : va_G) (k : Nat → ClassId) (q : Nat → Nat) (wk : Nat → Int8) (dk : Nat → Int8) (lg : Nat → Int8) (dt : Nat → Bool) (lo : Nat → Bool) (mk : Bool) (la : Nat) (lf : Int32) (sh : Nat) : Ci l D (tyK k) y_Model_revert k_Model_revert ({ frames := 2, cells := 0, slots := 0, locals := 44 }) [.ref (q 7)] (mW k q wk dk lg dt lo true mk la lf sh) (bI false) (mW k q wk dk lg dt lo true mk la lf sh) := by
  refine open_i (by decide) (Nat.le_of_ble_eq_true rfl) ?_
  intro pg ev s m below meth c A hx hb hml hr hlocks htw hown hnm hA hS hP hK hD hN ls hl
  have hown : s.vm.findClass R_Model = some m.cls := hown
  have hl : lv_has ls 1 [(0, .ref (q 7))] := hl
  refine lv_aload_n hx hb d_Model_revert_0 rfl (lv_at hl 0 rfl) ?_
  refine va_get (D := D) (ci := 2) (v := .int (bI true)) (C := R_Model) (T := F_Model) (N := 10) hx hb htw i_Model hown hK hP 0 rfl rfl 5 (by decide) (htw _ tw_157) (fun _ h9 => h9) rfl d_Model_revert_1 ?_
  refine my_ifeq (tgt := 9) hx hb d_Model_revert_4 (by decide) (fun c => absurd c (by decide)) (fun _ => ?_)
  refine lv_iconst (v := (nI 0)) hx hb d_Model_revert_7 (by decide) ?_
  refine lv_as (y := (bI false)) rfl ?_
  exact ret_z hx hb hr hlocks hK hP hD hS (v := false) rfl d_Model_revert_8
set_option maxHeartbeats 4000000 in
set_option maxRecDepth 100000 in
theorem c_Model_revert_on (l : Launch) (D : va_G) (k : Nat → ClassId) (q : Nat → Nat) (wk : Nat → Int8) (dk : Nat → Int8) (lg : Nat → Int8) (dt : Nat → Bool) (lo : Nat → Bool) (mk : Bool) (la : Nat) (lf : Int32) (sh : Nat) : Ci l D (tyK k) y_Model_revert k_Model_revert ({ frames := 2, cells := 0, slots := 0, locals := 44 }) [.ref (q 7)] (mW k q wk dk lg dt lo false mk la lf sh) (bI true) (mW k q (cpA 24 dk wk) dk lg (clr 24 dt) lo false mk la lf sh) := by
  refine open_i (by decide) (Nat.le_of_ble_eq_true rfl) ?_
  intro pg ev s m below meth c A hx hb hml hr hlocks htw hown hnm hA hS hP hK hD hN ls hl
  have hown : s.vm.findClass R_Model = some m.cls := hown
  have hl : lv_has ls 1 [(0, .ref (q 7))] := hl
  refine lv_aload_n hx hb d_Model_revert_0 rfl (lv_at hl 0 rfl) ?_
  refine va_get (D := D) (ci := 2) (v := .int (bI false)) (C := R_Model) (T := F_Model) (N := 10) hx hb htw i_Model hown hK hP 0 rfl rfl 5 (by decide) (htw _ tw_157) (fun _ h9 => h9) rfl d_Model_revert_1 ?_
  refine my_ifeq (tgt := 9) hx hb d_Model_revert_4 (by decide) (fun _ => ?_) (fun c => absurd c (by decide))
  refine lv_aload_n hx hb d_Model_revert_9 rfl (lv_at hl 0 rfl) ?_
  refine call_Vv (n := 0) (As := []) (ws' := mW k q (cpA 24 dk wk) dk lg (clr 24 dt) lo false mk la lf sh) ⟨hx, hb, hml, hown, htw⟩ (c_Model_fresh l D k q wk dk lg dt lo false mk la lf sh) (in_V tw_228 tw_230 tw_6 tw_11 tw_231) (by decide +kernel) ⟨rfl, rfl, Nat.le_of_ble_eq_true rfl, Nat.le_of_ble_eq_true rfl⟩ hK hN hP hD hS hA [0, 1, 2, 3, 4, 5] [] [0, 1, 2, 3, 4, 5] rfl rfl ([]) rfl rfl (by decide) rfl rfl 2 rfl 0 rfl hl.1 rfl rfl (Nat.le_of_ble_eq_true rfl) d_Model_revert_10 ⟨Nat.zero_le _, Nat.zero_le _⟩ (fun H locs hP hD hS => ?_)
  refine lv_iconst (v := (nI 1)) hx hb d_Model_revert_13 (by decide) ?_
  refine lv_as (y := (bI true)) rfl ?_
  exact ret_z hx hb hr hlocks hK hP hD hS (v := true) rfl d_Model_revert_14
set_option maxHeartbeats 4000000 in
set_option maxRecDepth 100000 in
theorem c_Model_cut_off (l : Launch) (D : va_G) (k : Nat → ClassId) (q : Nat → Nat) (wk : Nat → Int8) (dk : Nat → Int8) (lg : Nat → Int8) (dt : Nat → Bool) (lo : Nat → Bool) (mk : Bool) (la : Nat) (lf : Int32) (sh : Nat) (n a : Int32) : Ci l D (tyK k) y_Model_cut k_Model_cut ({ frames := 1, cells := 0, slots := 0, locals := 22 }) [.ref (q 7), .int n, .int a] (mW k q wk dk lg dt lo true mk la lf sh) (bI false) (mW k q wk dk lg dt lo true mk la lf sh) := by
  refine open_i (by decide) (Nat.le_of_ble_eq_true rfl) ?_
  intro pg ev s m below meth c A hx hb hml hr hlocks htw hown hnm hA hS hP hK hD hN ls hl
  have hown : s.vm.findClass R_Model = some m.cls := hown
  have hl : lv_has ls 3 [(0, .ref (q 7)), (1, .int n), (2, .int a)] := hl
  refine lv_aload_n hx hb d_Model_cut_0 rfl (lv_at hl 0 rfl) ?_
  refine va_get (D := D) (ci := 2) (v := .int (bI true)) (C := R_Model) (T := F_Model) (N := 10) hx hb htw i_Model hown hK hP 0 rfl rfl 5 (by decide) (htw _ tw_157) (fun _ h9 => h9) rfl d_Model_cut_1 ?_
  refine my_ifne (tgt := 29) hx hb d_Model_cut_4 (by decide) (fun _ => ?_) (fun c => absurd c (by decide))
  refine lv_iconst (v := (nI 0)) hx hb d_Model_cut_29 (by decide) ?_
  refine lv_as (y := (bI false)) rfl ?_
  exact ret_z hx hb hr hlocks hK hP hD hS (v := false) rfl d_Model_cut_30
set_option maxHeartbeats 4000000 in
set_option maxRecDepth 100000 in
theorem c_Model_cut_n (l : Launch) (D : va_G) (k : Nat → ClassId) (q : Nat → Nat) (wk : Nat → Int8) (dk : Nat → Int8) (lg : Nat → Int8) (dt : Nat → Bool) (lo : Nat → Bool) (mk : Bool) (la : Nat) (lf : Int32) (sh : Nat) (n a : Int32) (hno : ¬ cutP n a) : Ci l D (tyK k) y_Model_cut k_Model_cut ({ frames := 1, cells := 0, slots := 0, locals := 22 }) [.ref (q 7), .int n, .int a] (mW k q wk dk lg dt lo false mk la lf sh) (bI false) (mW k q wk dk lg dt lo false mk la lf sh) := by
  refine open_i (by decide) (Nat.le_of_ble_eq_true rfl) ?_
  intro pg ev s m below meth c A hx hb hml hr hlocks htw hown hnm hA hS hP hK hD hN ls hl
  have hown : s.vm.findClass R_Model = some m.cls := hown
  have hl : lv_has ls 3 [(0, .ref (q 7)), (1, .int n), (2, .int a)] := hl
  by_cases h1 : n < nI 1 ∨ nI 1000 < n
  · refine lv_aload_n hx hb d_Model_cut_0 rfl (lv_at hl 0 rfl) ?_
    refine va_get (D := D) (ci := 2) (v := .int (bI false)) (C := R_Model) (T := F_Model) (N := 10) hx hb htw i_Model hown hK hP 0 rfl rfl 5 (by decide) (htw _ tw_157) (fun _ h9 => h9) rfl d_Model_cut_1 ?_
    refine my_ifne (tgt := 29) hx hb d_Model_cut_4 (by decide) (fun c => absurd c (by decide)) (fun _ => ?_)
    refine lv_iload_n hx hb d_Model_cut_7 rfl (lv_at hl 1 rfl) ?_
    refine lv_iconst (v := (nI 1)) hx hb d_Model_cut_8 (by decide) ?_
    refine lv_sipush (v := (nI 1000)) hx hb d_Model_cut_9 (by decide) ?_
    refine call_Si (n := 3) (As := [.int n, .int (nI 1), .int (nI 1000)]) (ws' := mW k q wk dk lg dt lo false mk la lf sh) ⟨hx, hb, hml, hown, htw⟩ (c_Model_in_n l D k n (nI 1) (nI 1000) h1) (in_S tw_190 tw_191 tw_11 tw_192) (by decide +kernel) ⟨rfl, rfl, Nat.le_of_ble_eq_true rfl, Nat.le_of_ble_eq_true rfl⟩ hK hN hP hD hS hA [] [0, 1, 2, 3, 4, 5] [0, 1, 2, 3, 4, 5] rfl rfl ([oM q false mk la lf sh, aB k (q 8) wk, aB k (q 9) dk, aB k (q 10) lg, aZ k (q 11) dt, aZ k (q 12) lo]) rfl rfl (by decide) rfl rfl hl.1 rfl rfl (Nat.le_of_ble_eq_true rfl) d_Model_cut_12 ⟨Nat.zero_le _, Nat.zero_le _⟩ (fun H locs hP hD hS => ?_)
    refine my_ifeq (tgt := 29) hx hb d_Model_cut_15 (by decide) (fun _ => ?_) (fun c => absurd c (by decide))
    refine lv_iconst (v := (nI 0)) hx hb d_Model_cut_29 (by decide) ?_
    refine lv_as (y := (bI false)) rfl ?_
    exact ret_z hx hb hr hlocks hK hP hD hS (v := false) rfl d_Model_cut_30
  · by_cases h2 : a < nI 0 ∨ nI 999 < a
    · refine lv_aload_n hx hb d_Model_cut_0 rfl (lv_at hl 0 rfl) ?_
      refine va_get (D := D) (ci := 2) (v := .int (bI false)) (C := R_Model) (T := F_Model) (N := 10) hx hb htw i_Model hown hK hP 0 rfl rfl 5 (by decide) (htw _ tw_157) (fun _ h9 => h9) rfl d_Model_cut_1 ?_
      refine my_ifne (tgt := 29) hx hb d_Model_cut_4 (by decide) (fun c => absurd c (by decide)) (fun _ => ?_)
      refine lv_iload_n hx hb d_Model_cut_7 rfl (lv_at hl 1 rfl) ?_
      refine lv_iconst (v := (nI 1)) hx hb d_Model_cut_8 (by decide) ?_
      refine lv_sipush (v := (nI 1000)) hx hb d_Model_cut_9 (by decide) ?_
      refine call_Si (n := 3) (As := [.int n, .int (nI 1), .int (nI 1000)]) (ws' := mW k q wk dk lg dt lo false mk la lf sh) ⟨hx, hb, hml, hown, htw⟩ (c_Model_in_y l D k n (nI 1) (nI 1000) (fun z => h1 (Or.inl z)) (fun z => h1 (Or.inr z))) (in_S tw_190 tw_191 tw_11 tw_192) (by decide +kernel) ⟨rfl, rfl, Nat.le_of_ble_eq_true rfl, Nat.le_of_ble_eq_true rfl⟩ hK hN hP hD hS hA [] [0, 1, 2, 3, 4, 5] [0, 1, 2, 3, 4, 5] rfl rfl ([oM q false mk la lf sh, aB k (q 8) wk, aB k (q 9) dk, aB k (q 10) lg, aZ k (q 11) dt, aZ k (q 12) lo]) rfl rfl (by decide) rfl rfl hl.1 rfl rfl (Nat.le_of_ble_eq_true rfl) d_Model_cut_12 ⟨Nat.zero_le _, Nat.zero_le _⟩ (fun H locs hP hD hS => ?_)
      refine my_ifeq (tgt := 29) hx hb d_Model_cut_15 (by decide) (fun c => absurd c (by decide)) (fun _ => ?_)
      refine lv_iload_n hx hb d_Model_cut_18 rfl (lv_at hl 2 rfl) ?_
      refine lv_iconst (v := (nI 0)) hx hb d_Model_cut_19 (by decide) ?_
      refine lv_sipush (v := (nI 999)) hx hb d_Model_cut_20 (by decide) ?_
      refine call_Si (n := 3) (As := [.int a, .int (nI 0), .int (nI 999)]) (ws' := mW k q wk dk lg dt lo false mk la lf sh) ⟨hx, hb, hml, hown, htw⟩ (c_Model_in_n l D k a (nI 0) (nI 999) h2) (in_S tw_190 tw_191 tw_11 tw_192) (by decide +kernel) ⟨rfl, rfl, Nat.le_of_ble_eq_true rfl, Nat.le_of_ble_eq_true rfl⟩ hK hN hP hD hS hA [] [0, 1, 2, 3, 4, 5] [0, 1, 2, 3, 4, 5] rfl rfl ([oM q false mk la lf sh, aB k (q 8) wk, aB k (q 9) dk, aB k (q 10) lg, aZ k (q 11) dt, aZ k (q 12) lo]) rfl rfl (by decide) rfl rfl hl.1 rfl rfl (Nat.le_of_ble_eq_true rfl) d_Model_cut_23 ⟨Nat.zero_le _, Nat.zero_le _⟩ (fun H locs hP hD hS => ?_)
      refine my_ifne (tgt := 31) hx hb d_Model_cut_26 (by decide) (fun c => absurd c (by decide)) (fun _ => ?_)
      refine lv_iconst (v := (nI 0)) hx hb d_Model_cut_29 (by decide) ?_
      refine lv_as (y := (bI false)) rfl ?_
      exact ret_z hx hb hr hlocks hK hP hD hS (v := false) rfl d_Model_cut_30
    · exact absurd (cutP_of (fun z => h1 (Or.inl z)) (fun z => h1 (Or.inr z)) (fun z => h2 (Or.inl z)) (Int32.not_le.mp (fun z => h2 (Or.inr (ge_gt (by decide) z))))) hno
set_option maxHeartbeats 4000000 in
set_option maxRecDepth 100000 in
theorem c_Model_cut_y (l : Launch) (D : va_G) (k : Nat → ClassId) (q : Nat → Nat) (wk : Nat → Int8) (dk : Nat → Int8) (lg : Nat → Int8) (dt : Nat → Bool) (lo : Nat → Bool) (mk : Bool) (la : Nat) (lf : Int32) (sh : Nat) (n a : Nat) (h1 : 1 ≤ n) (h2 : n ≤ 1000) (h3 : a < 1000) : Ci l D (tyK k) y_Model_cut k_Model_cut ({ frames := 1, cells := 0, slots := 0, locals := 22 }) [.ref (q 7), .int (nI n), .int (nI a)] (mW k q wk dk lg dt lo false mk la lf sh) (bI true) (mW k q wk dk lg dt lo false mk la (nI n) a) := by
  refine open_i (by decide) (Nat.le_of_ble_eq_true rfl) ?_
  intro pg ev s m below meth c A hx hb hml hr hlocks htw hown hnm hA hS hP hK hD hN ls hl
  have hown : s.vm.findClass R_Model = some m.cls := hown
  have hl : lv_has ls 3 [(0, .ref (q 7)), (1, .int (nI n)), (2, .int (nI a))] := hl
  refine lv_aload_n hx hb d_Model_cut_0 rfl (lv_at hl 0 rfl) ?_
  refine va_get (D := D) (ci := 2) (v := .int (bI false)) (C := R_Model) (T := F_Model) (N := 10) hx hb htw i_Model hown hK hP 0 rfl rfl 5 (by decide) (htw _ tw_157) (fun _ h9 => h9) rfl d_Model_cut_1 ?_
  refine my_ifne (tgt := 29) hx hb d_Model_cut_4 (by decide) (fun c => absurd c (by decide)) (fun _ => ?_)
  refine lv_iload_n hx hb d_Model_cut_7 rfl (lv_at hl 1 rfl) ?_
  refine lv_iconst (v := (nI 1)) hx hb d_Model_cut_8 (by decide) ?_
  refine lv_sipush (v := (nI 1000)) hx hb d_Model_cut_9 (by decide) ?_
  refine call_Si (n := 3) (As := [.int (nI n), .int (nI 1), .int (nI 1000)]) (ws' := mW k q wk dk lg dt lo false mk la lf sh) ⟨hx, hb, hml, hown, htw⟩ (c_Model_in_y l D k (nI n) (nI 1) (nI 1000) (nI_nlt (show 1 ≤ n by omega) (by omega)) (nI_nlt (show n ≤ 1000 by omega) (by decide))) (in_S tw_190 tw_191 tw_11 tw_192) (by decide +kernel) ⟨rfl, rfl, Nat.le_of_ble_eq_true rfl, Nat.le_of_ble_eq_true rfl⟩ hK hN hP hD hS hA [] [0, 1, 2, 3, 4, 5] [0, 1, 2, 3, 4, 5] rfl rfl ([oM q false mk la lf sh, aB k (q 8) wk, aB k (q 9) dk, aB k (q 10) lg, aZ k (q 11) dt, aZ k (q 12) lo]) rfl rfl (by decide) rfl rfl hl.1 rfl rfl (Nat.le_of_ble_eq_true rfl) d_Model_cut_12 ⟨Nat.zero_le _, Nat.zero_le _⟩ (fun H locs hP hD hS => ?_)
  refine my_ifeq (tgt := 29) hx hb d_Model_cut_15 (by decide) (fun c => absurd c (by decide)) (fun _ => ?_)
  refine lv_iload_n hx hb d_Model_cut_18 rfl (lv_at hl 2 rfl) ?_
  refine lv_iconst (v := (nI 0)) hx hb d_Model_cut_19 (by decide) ?_
  refine lv_sipush (v := (nI 999)) hx hb d_Model_cut_20 (by decide) ?_
  refine call_Si (n := 3) (As := [.int (nI a), .int (nI 0), .int (nI 999)]) (ws' := mW k q wk dk lg dt lo false mk la lf sh) ⟨hx, hb, hml, hown, htw⟩ (c_Model_in_y l D k (nI a) (nI 0) (nI 999) (nI_nlt (show 0 ≤ a by omega) (by omega)) (nI_nlt (show a ≤ 999 by omega) (by decide))) (in_S tw_190 tw_191 tw_11 tw_192) (by decide +kernel) ⟨rfl, rfl, Nat.le_of_ble_eq_true rfl, Nat.le_of_ble_eq_true rfl⟩ hK hN hP hD hS hA [] [0, 1, 2, 3, 4, 5] [0, 1, 2, 3, 4, 5] rfl rfl ([oM q false mk la lf sh, aB k (q 8) wk, aB k (q 9) dk, aB k (q 10) lg, aZ k (q 11) dt, aZ k (q 12) lo]) rfl rfl (by decide) rfl rfl hl.1 rfl rfl (Nat.le_of_ble_eq_true rfl) d_Model_cut_23 ⟨Nat.zero_le _, Nat.zero_le _⟩ (fun H locs hP hD hS => ?_)
  refine my_ifne (tgt := 31) hx hb d_Model_cut_26 (by decide) (fun _ => ?_) (fun c => absurd c (by decide))
  refine lv_aload_n hx hb d_Model_cut_31 rfl (lv_at hl 0 rfl) ?_
  refine lv_iload_n hx hb d_Model_cut_32 rfl (lv_at hl 1 rfl) ?_
  refine va_put (D := D) (ci := 2) (v := .int (nI n)) (ty := .int) (C := R_Model) (T := F_Model) (N := 10) hx hb htw i_Model t_Model t_Model_ok n_Model hown hK hP hD hS 0 rfl rfl 8 (by decide) (htw _ tw_160) (fun _ h9 => h9) rfl (by decide +kernel) rfl rfl (Nat.le_of_ble_eq_true rfl) d_Model_cut_33 (fun H locs hP hD hS => ?_)
  have hP : va_P D classes (mW k q wk dk lg dt lo false mk la (nI n) sh) H := hP
  have hD : va_D A (mW k q wk dk lg dt lo false mk la (nI n) sh) := hD
  refine lv_aload_n hx hb d_Model_cut_36 rfl (lv_at hl 0 rfl) ?_
  refine lv_iload_n hx hb d_Model_cut_37 rfl (lv_at hl 2 rfl) ?_
  refine va_put (D := D) (ci := 2) (v := .int (nI a)) (ty := .int) (C := R_Model) (T := F_Model) (N := 10) hx hb htw i_Model t_Model t_Model_ok n_Model hown hK hP hD hS 0 rfl rfl 9 (by decide) (htw _ tw_161) (fun _ h9 => h9) rfl (by decide +kernel) rfl rfl (Nat.le_of_ble_eq_true rfl) d_Model_cut_38 (fun H locs hP hD hS => ?_)
  have hP : va_P D classes (mW k q wk dk lg dt lo false mk la (nI n) a) H := hP
  have hD : va_D A (mW k q wk dk lg dt lo false mk la (nI n) a) := hD
  refine lv_iconst (v := (nI 1)) hx hb d_Model_cut_41 (by decide) ?_
  refine lv_as (y := (bI true)) rfl ?_
  exact ret_z hx hb hr hlocks hK hP hD hS (v := true) rfl d_Model_cut_42
set_option maxHeartbeats 4000000 in
set_option maxRecDepth 100000 in
theorem c_Model_start_on (l : Launch) (D : va_G) (k : Nat → ClassId) (q : Nat → Nat) (wk : Nat → Int8) (dk : Nat → Int8) (lg : Nat → Int8) (dt : Nat → Bool) (lo : Nat → Bool) (mk : Bool) (la : Nat) (lf : Int32) (sh : Nat) (a : Int32) : Ci l D (tyK k) y_Model_start k_Model_start ({ frames := 2, cells := 0, slots := 0, locals := 46 }) [.ref (q 7), .int a] (mW k q wk dk lg dt lo false mk la lf sh) (bI false) (mW k q wk dk lg dt lo false mk la lf sh) := by
  refine open_i (by decide) (Nat.le_of_ble_eq_true rfl) ?_
  intro pg ev s m below meth c A hx hb hml hr hlocks htw hown hnm hA hS hP hK hD hN ls hl
  have hown : s.vm.findClass R_Model = some m.cls := hown
  have hl : lv_has ls 2 [(0, .ref (q 7)), (1, .int a)] := hl
  refine lv_aload_n hx hb d_Model_start_0 rfl (lv_at hl 0 rfl) ?_
  refine va_get (D := D) (ci := 2) (v := .int (bI false)) (C := R_Model) (T := F_Model) (N := 10) hx hb htw i_Model hown hK hP 0 rfl rfl 5 (by decide) (htw _ tw_157) (fun _ h9 => h9) rfl d_Model_start_1 ?_
  refine my_ifeq (tgt := 18) hx hb d_Model_start_4 (by decide) (fun _ => ?_) (fun c => absurd c (by decide))
  refine lv_iconst (v := (nI 0)) hx hb d_Model_start_18 (by decide) ?_
  refine lv_as (y := (bI false)) rfl ?_
  exact ret_z hx hb hr hlocks hK hP hD hS (v := false) rfl d_Model_start_19
set_option maxHeartbeats 4000000 in
set_option maxRecDepth 100000 in
theorem c_Model_start_n (l : Launch) (D : va_G) (k : Nat → ClassId) (q : Nat → Nat) (wk : Nat → Int8) (dk : Nat → Int8) (lg : Nat → Int8) (dt : Nat → Bool) (lo : Nat → Bool) (mk : Bool) (la : Nat) (lf : Int32) (sh : Nat) (a : Int32) (hno : ¬ stP a) : Ci l D (tyK k) y_Model_start k_Model_start ({ frames := 2, cells := 0, slots := 0, locals := 46 }) [.ref (q 7), .int a] (mW k q wk dk lg dt lo true mk la lf sh) (bI false) (mW k q wk dk lg dt lo true mk la lf sh) := by
  refine open_i (by decide) (Nat.le_of_ble_eq_true rfl) ?_
  intro pg ev s m below meth c A hx hb hml hr hlocks htw hown hnm hA hS hP hK hD hN ls hl
  have hown : s.vm.findClass R_Model = some m.cls := hown
  have hl : lv_has ls 2 [(0, .ref (q 7)), (1, .int a)] := hl
  refine lv_aload_n hx hb d_Model_start_0 rfl (lv_at hl 0 rfl) ?_
  refine va_get (D := D) (ci := 2) (v := .int (bI true)) (C := R_Model) (T := F_Model) (N := 10) hx hb htw i_Model hown hK hP 0 rfl rfl 5 (by decide) (htw _ tw_157) (fun _ h9 => h9) rfl d_Model_start_1 ?_
  refine my_ifeq (tgt := 18) hx hb d_Model_start_4 (by decide) (fun c => absurd c (by decide)) (fun _ => ?_)
  refine lv_iload_n hx hb d_Model_start_7 rfl (lv_at hl 1 rfl) ?_
  refine lv_iconst (v := (nI 0)) hx hb d_Model_start_8 (by decide) ?_
  refine lv_sipush (v := (nI 1000)) hx hb d_Model_start_9 (by decide) ?_
  refine call_Si (n := 3) (As := [.int a, .int (nI 0), .int (nI 1000)]) (ws' := mW k q wk dk lg dt lo true mk la lf sh) ⟨hx, hb, hml, hown, htw⟩ (c_Model_in_n l D k a (nI 0) (nI 1000) (stN hno)) (in_S tw_190 tw_191 tw_11 tw_192) (by decide +kernel) ⟨rfl, rfl, Nat.le_of_ble_eq_true rfl, Nat.le_of_ble_eq_true rfl⟩ hK hN hP hD hS hA [] [0, 1, 2, 3, 4, 5] [0, 1, 2, 3, 4, 5] rfl rfl ([oM q true mk la lf sh, aB k (q 8) wk, aB k (q 9) dk, aB k (q 10) lg, aZ k (q 11) dt, aZ k (q 12) lo]) rfl rfl (by decide) rfl rfl hl.1 rfl rfl (Nat.le_of_ble_eq_true rfl) d_Model_start_12 ⟨Nat.zero_le _, Nat.zero_le _⟩ (fun H locs hP hD hS => ?_)
  refine my_ifne (tgt := 20) hx hb d_Model_start_15 (by decide) (fun c => absurd c (by decide)) (fun _ => ?_)
  refine lv_iconst (v := (nI 0)) hx hb d_Model_start_18 (by decide) ?_
  refine lv_as (y := (bI false)) rfl ?_
  exact ret_z hx hb hr hlocks hK hP hD hS (v := false) rfl d_Model_start_19
set_option maxHeartbeats 4000000 in
set_option maxRecDepth 100000 in
theorem c_Model_start_p0 (l : Launch) (D : va_G) (k : Nat → ClassId) (q : Nat → Nat) (wk : Nat → Int8) (dk : Nat → Int8) (lg : Nat → Int8) (dt : Nat → Bool) (lo : Nat → Bool) (la : Nat) (lf : Int32) (sh : Nat) (pt : Nat) (hpt : pt < 1000) : Ci l D (tyK k) y_Model_start k_Model_start ({ frames := 2, cells := 0, slots := 0, locals := 46 }) [.ref (q 7), .int (nI pt)] (mW k q wk dk lg dt lo true false la lf sh) (bI false) (mW k q wk dk lg dt lo true false la lf sh) := by
  refine open_i (by decide) (Nat.le_of_ble_eq_true rfl) ?_
  intro pg ev s m below meth c A hx hb hml hr hlocks htw hown hnm hA hS hP hK hD hN ls hl
  have hown : s.vm.findClass R_Model = some m.cls := hown
  have hl : lv_has ls 2 [(0, .ref (q 7)), (1, .int (nI pt))] := hl
  have hc24 := cnt_le lo 24
  refine lv_aload_n hx hb d_Model_start_0 rfl (lv_at hl 0 rfl) ?_
  refine va_get (D := D) (ci := 2) (v := .int (bI true)) (C := R_Model) (T := F_Model) (N := 10) hx hb htw i_Model hown hK hP 0 rfl rfl 5 (by decide) (htw _ tw_157) (fun _ h9 => h9) rfl d_Model_start_1 ?_
  refine my_ifeq (tgt := 18) hx hb d_Model_start_4 (by decide) (fun c => absurd c (by decide)) (fun _ => ?_)
  refine lv_iload_n hx hb d_Model_start_7 rfl (lv_at hl 1 rfl) ?_
  refine lv_iconst (v := (nI 0)) hx hb d_Model_start_8 (by decide) ?_
  refine lv_sipush (v := (nI 1000)) hx hb d_Model_start_9 (by decide) ?_
  refine call_Si (n := 3) (As := [.int (nI pt), .int (nI 0), .int (nI 1000)]) (ws' := mW k q wk dk lg dt lo true false la lf sh) ⟨hx, hb, hml, hown, htw⟩ (c_Model_in_y l D k (nI pt) (nI 0) (nI 1000) (nI_nlt (show 0 ≤ pt by omega) (by omega)) (nI_nlt (show pt ≤ 1000 by omega) (by decide))) (in_S tw_190 tw_191 tw_11 tw_192) (by decide +kernel) ⟨rfl, rfl, Nat.le_of_ble_eq_true rfl, Nat.le_of_ble_eq_true rfl⟩ hK hN hP hD hS hA [] [0, 1, 2, 3, 4, 5] [0, 1, 2, 3, 4, 5] rfl rfl ([oM q true false la lf sh, aB k (q 8) wk, aB k (q 9) dk, aB k (q 10) lg, aZ k (q 11) dt, aZ k (q 12) lo]) rfl rfl (by decide) rfl rfl hl.1 rfl rfl (Nat.le_of_ble_eq_true rfl) d_Model_start_12 ⟨Nat.zero_le _, Nat.zero_le _⟩ (fun H locs hP hD hS => ?_)
  refine my_ifne (tgt := 20) hx hb d_Model_start_15 (by decide) (fun _ => ?_) (fun c => absurd c (by decide))
  refine lv_aload_n hx hb d_Model_start_20 rfl (lv_at hl 0 rfl) ?_
  refine va_get (D := D) (ci := 2) (v := .int (bI false)) (C := R_Model) (T := F_Model) (N := 10) hx hb htw i_Model hown hK hP 0 rfl rfl 6 (by decide) (htw _ tw_158) (fun _ h9 => h9) rfl d_Model_start_21 ?_
  refine my_ifeq (tgt := 41) hx hb d_Model_start_24 (by decide) (fun _ => ?_) (fun c => absurd c (by decide))
  refine lv_iload_n hx hb d_Model_start_41 rfl (lv_at hl 1 rfl) ?_
  refine lv_sipush (v := (nI 1000)) hx hb d_Model_start_42 (by decide) ?_
  refine my_icmpge (tgt := 50) hx hb (x := pt) (y := 1000) (by omega) (by omega) d_Model_start_45 (by decide) (fun c_45 => absurd c_45 (by omega)) (fun c_45 => ?_)
  refine lv_iconst (v := (nI 0)) hx hb d_Model_start_48 (by decide) ?_
  refine lv_as (y := (bI false)) rfl ?_
  exact ret_z hx hb hr hlocks hK hP hD hS (v := false) rfl d_Model_start_49
set_option maxHeartbeats 4000000 in
set_option maxRecDepth 100000 in
theorem c_Model_start_w0 (l : Launch) (D : va_G) (k : Nat → ClassId) (q : Nat → Nat) (wk : Nat → Int8) (dk : Nat → Int8) (lg : Nat → Int8) (dt : Nat → Bool) (lo : Nat → Bool) (la : Nat) (lf : Int32) (sh : Nat) : Ci l D (tyK k) y_Model_start k_Model_start ({ frames := 2, cells := 0, slots := 0, locals := 46 }) [.ref (q 7), .int (nI 1000)] (mW k q wk dk lg dt lo true false la lf sh) (bI true) (mW k q (cpA 24 dk wk) dk lg (clr 24 dt) lo false false la lf sh) := by
  refine open_i (by decide) (Nat.le_of_ble_eq_true rfl) ?_
  intro pg ev s m below meth c A hx hb hml hr hlocks htw hown hnm hA hS hP hK hD hN ls hl
  have hown : s.vm.findClass R_Model = some m.cls := hown
  have hl : lv_has ls 2 [(0, .ref (q 7)), (1, .int (nI 1000))] := hl
  have hc24 := cnt_le lo 24
  refine lv_aload_n hx hb d_Model_start_0 rfl (lv_at hl 0 rfl) ?_
  refine va_get (D := D) (ci := 2) (v := .int (bI true)) (C := R_Model) (T := F_Model) (N := 10) hx hb htw i_Model hown hK hP 0 rfl rfl 5 (by decide) (htw _ tw_157) (fun _ h9 => h9) rfl d_Model_start_1 ?_
  refine my_ifeq (tgt := 18) hx hb d_Model_start_4 (by decide) (fun c => absurd c (by decide)) (fun _ => ?_)
  refine lv_iload_n hx hb d_Model_start_7 rfl (lv_at hl 1 rfl) ?_
  refine lv_iconst (v := (nI 0)) hx hb d_Model_start_8 (by decide) ?_
  refine lv_sipush (v := (nI 1000)) hx hb d_Model_start_9 (by decide) ?_
  refine call_Si (n := 3) (As := [.int (nI 1000), .int (nI 0), .int (nI 1000)]) (ws' := mW k q wk dk lg dt lo true false la lf sh) ⟨hx, hb, hml, hown, htw⟩ (c_Model_in_y l D k (nI 1000) (nI 0) (nI 1000) (nI_nlt (show 0 ≤ 1000 by omega) (by omega)) (nI_nlt (show 1000 ≤ 1000 by omega) (by decide))) (in_S tw_190 tw_191 tw_11 tw_192) (by decide +kernel) ⟨rfl, rfl, Nat.le_of_ble_eq_true rfl, Nat.le_of_ble_eq_true rfl⟩ hK hN hP hD hS hA [] [0, 1, 2, 3, 4, 5] [0, 1, 2, 3, 4, 5] rfl rfl ([oM q true false la lf sh, aB k (q 8) wk, aB k (q 9) dk, aB k (q 10) lg, aZ k (q 11) dt, aZ k (q 12) lo]) rfl rfl (by decide) rfl rfl hl.1 rfl rfl (Nat.le_of_ble_eq_true rfl) d_Model_start_12 ⟨Nat.zero_le _, Nat.zero_le _⟩ (fun H locs hP hD hS => ?_)
  refine my_ifne (tgt := 20) hx hb d_Model_start_15 (by decide) (fun _ => ?_) (fun c => absurd c (by decide))
  refine lv_aload_n hx hb d_Model_start_20 rfl (lv_at hl 0 rfl) ?_
  refine va_get (D := D) (ci := 2) (v := .int (bI false)) (C := R_Model) (T := F_Model) (N := 10) hx hb htw i_Model hown hK hP 0 rfl rfl 6 (by decide) (htw _ tw_158) (fun _ h9 => h9) rfl d_Model_start_21 ?_
  refine my_ifeq (tgt := 41) hx hb d_Model_start_24 (by decide) (fun _ => ?_) (fun c => absurd c (by decide))
  refine lv_iload_n hx hb d_Model_start_41 rfl (lv_at hl 1 rfl) ?_
  refine lv_sipush (v := (nI 1000)) hx hb d_Model_start_42 (by decide) ?_
  refine my_icmpge (tgt := 50) hx hb (x := 1000) (y := 1000) (by omega) (by omega) d_Model_start_45 (by decide) (fun c_45 => ?_) (fun c_45 => absurd c_45 (by omega))
  refine lv_aload_n hx hb d_Model_start_50 rfl (lv_at hl 0 rfl) ?_
  refine lv_iconst (v := (nI 0)) hx hb d_Model_start_51 (by decide) ?_
  refine lv_as (y := (bI false)) rfl ?_
  refine va_put (D := D) (ci := 2) (v := .int (bI false)) (ty := .boolean) (C := R_Model) (T := F_Model) (N := 10) hx hb htw i_Model t_Model t_Model_ok n_Model hown hK hP hD hS 0 rfl rfl 6 (by decide) (htw _ tw_158) (fun _ h9 => h9) rfl (by decide +kernel) (bI_nar _) (bI_fit _) (Nat.le_of_ble_eq_true rfl) d_Model_start_52 (fun H locs hP hD hS => ?_)
  have hP : va_P D classes (mW k q wk dk lg dt lo true false la lf sh) H := hP
  have hD : va_D A (mW k q wk dk lg dt lo true false la lf sh) := hD
  refine lv_aload_n hx hb d_Model_start_55 rfl (lv_at hl 0 rfl) ?_
  refine lv_iconst (v := (nI 0)) hx hb d_Model_start_56 (by decide) ?_
  refine lv_as (y := (bI false)) rfl ?_
  refine va_put (D := D) (ci := 2) (v := .int (bI false)) (ty := .boolean) (C := R_Model) (T := F_Model) (N := 10) hx hb htw i_Model t_Model t_Model_ok n_Model hown hK hP hD hS 0 rfl rfl 5 (by decide) (htw _ tw_157) (fun _ h9 => h9) rfl (by decide +kernel) (bI_nar _) (bI_fit _) (Nat.le_of_ble_eq_true rfl) d_Model_start_57 (fun H locs hP hD hS => ?_)
  have hP : va_P D classes (mW k q wk dk lg dt lo false false la lf sh) H := hP
  have hD : va_D A (mW k q wk dk lg dt lo false false la lf sh) := hD
  refine lv_aload_n hx hb d_Model_start_60 rfl (lv_at hl 0 rfl) ?_
  refine call_Vv (n := 0) (As := []) (ws' := mW k q (cpA 24 dk wk) dk lg (clr 24 dt) lo false false la lf sh) ⟨hx, hb, hml, hown, htw⟩ (c_Model_fresh l D k q wk dk lg dt lo false false la lf sh) (in_V tw_228 tw_230 tw_6 tw_11 tw_231) (by decide +kernel) ⟨rfl, rfl, Nat.le_of_ble_eq_true rfl, Nat.le_of_ble_eq_true rfl⟩ hK hN hP hD hS hA [0, 1, 2, 3, 4, 5] [] [0, 1, 2, 3, 4, 5] rfl rfl ([]) rfl rfl (by decide) rfl rfl 2 rfl 0 rfl hl.1 rfl rfl (Nat.le_of_ble_eq_true rfl) d_Model_start_61 ⟨Nat.zero_le _, Nat.zero_le _⟩ (fun H locs hP hD hS => ?_)
  refine lv_iconst (v := (nI 1)) hx hb d_Model_start_64 (by decide) ?_
  refine lv_as (y := (bI true)) rfl ?_
  exact ret_z hx hb hr hlocks hK hP hD hS (v := true) rfl d_Model_start_65
set_option maxHeartbeats 4000000 in
set_option maxRecDepth 100000 in
theorem c_Model_start_p1 (l : Launch) (D : va_G) (k : Nat → ClassId) (q : Nat → Nat) (wk : Nat → Int8) (dk : Nat → Int8) (lg : Nat → Int8) (dt : Nat → Bool) (lo : Nat → Bool) (la : Nat) (lf : Int32) (sh : Nat) (pt : Nat) (hpt : pt < 1000) : Ci l D (tyK k) y_Model_start k_Model_start ({ frames := 2, cells := 0, slots := 0, locals := 46 }) [.ref (q 7), .int (nI pt)] (mW k q wk dk lg dt lo true true la lf sh) (bI false) (mW k q wk (layN 24 lo ((cnt lo 24 * pt) / 1000) lg dk) lg dt lo true true la lf sh) := by
  refine open_i (by decide) (Nat.le_of_ble_eq_true rfl) ?_
  intro pg ev s m below meth c A hx hb hml hr hlocks htw hown hnm hA hS hP hK hD hN ls hl
  have hown : s.vm.findClass R_Model = some m.cls := hown
  have hl : lv_has ls 2 [(0, .ref (q 7)), (1, .int (nI pt))] := hl
  have hc24 := cnt_le lo 24
  have hdv : cnt lo 24 * pt / 1000 ≤ cnt lo 24 := div_b (by omega)
  have hmu := mul_b hc24 (show pt ≤ 1000 by omega)
  refine lv_aload_n hx hb d_Model_start_0 rfl (lv_at hl 0 rfl) ?_
  refine va_get (D := D) (ci := 2) (v := .int (bI true)) (C := R_Model) (T := F_Model) (N := 10) hx hb htw i_Model hown hK hP 0 rfl rfl 5 (by decide) (htw _ tw_157) (fun _ h9 => h9) rfl d_Model_start_1 ?_
  refine my_ifeq (tgt := 18) hx hb d_Model_start_4 (by decide) (fun c => absurd c (by decide)) (fun _ => ?_)
  refine lv_iload_n hx hb d_Model_start_7 rfl (lv_at hl 1 rfl) ?_
  refine lv_iconst (v := (nI 0)) hx hb d_Model_start_8 (by decide) ?_
  refine lv_sipush (v := (nI 1000)) hx hb d_Model_start_9 (by decide) ?_
  refine call_Si (n := 3) (As := [.int (nI pt), .int (nI 0), .int (nI 1000)]) (ws' := mW k q wk dk lg dt lo true true la lf sh) ⟨hx, hb, hml, hown, htw⟩ (c_Model_in_y l D k (nI pt) (nI 0) (nI 1000) (nI_nlt (show 0 ≤ pt by omega) (by omega)) (nI_nlt (show pt ≤ 1000 by omega) (by decide))) (in_S tw_190 tw_191 tw_11 tw_192) (by decide +kernel) ⟨rfl, rfl, Nat.le_of_ble_eq_true rfl, Nat.le_of_ble_eq_true rfl⟩ hK hN hP hD hS hA [] [0, 1, 2, 3, 4, 5] [0, 1, 2, 3, 4, 5] rfl rfl ([oM q true true la lf sh, aB k (q 8) wk, aB k (q 9) dk, aB k (q 10) lg, aZ k (q 11) dt, aZ k (q 12) lo]) rfl rfl (by decide) rfl rfl hl.1 rfl rfl (Nat.le_of_ble_eq_true rfl) d_Model_start_12 ⟨Nat.zero_le _, Nat.zero_le _⟩ (fun H locs hP hD hS => ?_)
  refine my_ifne (tgt := 20) hx hb d_Model_start_15 (by decide) (fun _ => ?_) (fun c => absurd c (by decide))
  refine lv_aload_n hx hb d_Model_start_20 rfl (lv_at hl 0 rfl) ?_
  refine va_get (D := D) (ci := 2) (v := .int (bI true)) (C := R_Model) (T := F_Model) (N := 10) hx hb htw i_Model hown hK hP 0 rfl rfl 6 (by decide) (htw _ tw_158) (fun _ h9 => h9) rfl d_Model_start_21 ?_
  refine my_ifeq (tgt := 41) hx hb d_Model_start_24 (by decide) (fun c => absurd c (by decide)) (fun _ => ?_)
  refine lv_aload_n hx hb d_Model_start_27 rfl (lv_at hl 0 rfl) ?_
  refine lv_aload_n hx hb d_Model_start_28 rfl (lv_at hl 0 rfl) ?_
  refine call_Vi (n := 0) (As := []) (ws' := mW k q wk dk lg dt lo true true la lf sh) ⟨hx, hb, hml, hown, htw⟩ (c_Model_loggedMany l D k q wk dk lg dt lo true true la lf sh) (in_V tw_240 tw_242 tw_7 tw_11 tw_243) (by decide +kernel) ⟨rfl, rfl, Nat.le_of_ble_eq_true rfl, Nat.le_of_ble_eq_true rfl⟩ hK hN hP hD hS hA [0, 1, 2, 3, 4, 5] [] [0, 1, 2, 3, 4, 5] rfl rfl ([]) rfl rfl (by decide) rfl rfl 2 rfl 0 rfl hl.1 rfl rfl (Nat.le_of_ble_eq_true rfl) d_Model_start_29 ⟨Nat.zero_le _, Nat.zero_le _⟩ (fun H locs hP hD hS => ?_)
  refine lv_iload_n hx hb d_Model_start_32 rfl (lv_at hl 1 rfl) ?_
  refine my_imul hx hb (x := cnt lo 24) (y := pt) d_Model_start_33 ?_
  refine lv_sipush (v := (nI 1000)) hx hb d_Model_start_34 (by decide) ?_
  refine my_idiv hx hb (x := (cnt lo 24) * pt) (y := 1000) (by omega) (by omega) (by omega) d_Model_start_37 ?_
  refine call_Vv (n := 1) (As := [.int (nI (((cnt lo 24) * pt) / 1000))]) (ws' := mW k q wk (layN 24 lo ((cnt lo 24 * pt) / 1000) lg dk) lg dt lo true true la lf sh) ⟨hx, hb, hml, hown, htw⟩ (c_Model_lay l D k q wk dk lg dt lo true true la lf sh ((cnt lo 24 * pt) / 1000) (by omega)) (in_V tw_220 tw_222 tw_5 tw_11 tw_223) (by decide +kernel) ⟨rfl, rfl, Nat.le_of_ble_eq_true rfl, Nat.le_of_ble_eq_true rfl⟩ hK hN hP hD hS hA [0, 1, 2, 3, 4, 5] [] [0, 1, 2, 3, 4, 5] rfl rfl ([]) rfl rfl (by decide) rfl rfl 2 rfl 0 rfl hl.1 rfl rfl (Nat.le_of_ble_eq_true rfl) d_Model_start_38 ⟨Nat.zero_le _, Nat.zero_le _⟩ (fun H locs hP hD hS => ?_)
  refine lv_iload_n hx hb d_Model_start_41 rfl (lv_at hl 1 rfl) ?_
  refine lv_sipush (v := (nI 1000)) hx hb d_Model_start_42 (by decide) ?_
  refine my_icmpge (tgt := 50) hx hb (x := pt) (y := 1000) (by omega) (by omega) d_Model_start_45 (by decide) (fun c_45 => absurd c_45 (by omega)) (fun c_45 => ?_)
  refine lv_iconst (v := (nI 0)) hx hb d_Model_start_48 (by decide) ?_
  refine lv_as (y := (bI false)) rfl ?_
  exact ret_z hx hb hr hlocks hK hP hD hS (v := false) rfl d_Model_start_49
set_option maxHeartbeats 4000000 in
set_option maxRecDepth 100000 in
theorem c_Model_start_w1 (l : Launch) (D : va_G) (k : Nat → ClassId) (q : Nat → Nat) (wk : Nat → Int8) (dk : Nat → Int8) (lg : Nat → Int8) (dt : Nat → Bool) (lo : Nat → Bool) (la : Nat) (lf : Int32) (sh : Nat) : Ci l D (tyK k) y_Model_start k_Model_start ({ frames := 2, cells := 0, slots := 0, locals := 46 }) [.ref (q 7), .int (nI 1000)] (mW k q wk dk lg dt lo true true la lf sh) (bI true) (mW k q (cpA 24 (layN 24 lo (cnt lo 24) lg dk) wk) (layN 24 lo (cnt lo 24) lg dk) lg (clr 24 dt) lo false false la lf sh) := by
  refine open_i (by decide) (Nat.le_of_ble_eq_true rfl) ?_
  intro pg ev s m below meth c A hx hb hml hr hlocks htw hown hnm hA hS hP hK hD hN ls hl
  have hown : s.vm.findClass R_Model = some m.cls := hown
  have hl : lv_has ls 2 [(0, .ref (q 7)), (1, .int (nI 1000))] := hl
  have hc24 := cnt_le lo 24
  refine lv_aload_n hx hb d_Model_start_0 rfl (lv_at hl 0 rfl) ?_
  refine va_get (D := D) (ci := 2) (v := .int (bI true)) (C := R_Model) (T := F_Model) (N := 10) hx hb htw i_Model hown hK hP 0 rfl rfl 5 (by decide) (htw _ tw_157) (fun _ h9 => h9) rfl d_Model_start_1 ?_
  refine my_ifeq (tgt := 18) hx hb d_Model_start_4 (by decide) (fun c => absurd c (by decide)) (fun _ => ?_)
  refine lv_iload_n hx hb d_Model_start_7 rfl (lv_at hl 1 rfl) ?_
  refine lv_iconst (v := (nI 0)) hx hb d_Model_start_8 (by decide) ?_
  refine lv_sipush (v := (nI 1000)) hx hb d_Model_start_9 (by decide) ?_
  refine call_Si (n := 3) (As := [.int (nI 1000), .int (nI 0), .int (nI 1000)]) (ws' := mW k q wk dk lg dt lo true true la lf sh) ⟨hx, hb, hml, hown, htw⟩ (c_Model_in_y l D k (nI 1000) (nI 0) (nI 1000) (nI_nlt (show 0 ≤ 1000 by omega) (by omega)) (nI_nlt (show 1000 ≤ 1000 by omega) (by decide))) (in_S tw_190 tw_191 tw_11 tw_192) (by decide +kernel) ⟨rfl, rfl, Nat.le_of_ble_eq_true rfl, Nat.le_of_ble_eq_true rfl⟩ hK hN hP hD hS hA [] [0, 1, 2, 3, 4, 5] [0, 1, 2, 3, 4, 5] rfl rfl ([oM q true true la lf sh, aB k (q 8) wk, aB k (q 9) dk, aB k (q 10) lg, aZ k (q 11) dt, aZ k (q 12) lo]) rfl rfl (by decide) rfl rfl hl.1 rfl rfl (Nat.le_of_ble_eq_true rfl) d_Model_start_12 ⟨Nat.zero_le _, Nat.zero_le _⟩ (fun H locs hP hD hS => ?_)
  refine my_ifne (tgt := 20) hx hb d_Model_start_15 (by decide) (fun _ => ?_) (fun c => absurd c (by decide))
  refine lv_aload_n hx hb d_Model_start_20 rfl (lv_at hl 0 rfl) ?_
  refine va_get (D := D) (ci := 2) (v := .int (bI true)) (C := R_Model) (T := F_Model) (N := 10) hx hb htw i_Model hown hK hP 0 rfl rfl 6 (by decide) (htw _ tw_158) (fun _ h9 => h9) rfl d_Model_start_21 ?_
  refine my_ifeq (tgt := 41) hx hb d_Model_start_24 (by decide) (fun c => absurd c (by decide)) (fun _ => ?_)
  refine lv_aload_n hx hb d_Model_start_27 rfl (lv_at hl 0 rfl) ?_
  refine lv_aload_n hx hb d_Model_start_28 rfl (lv_at hl 0 rfl) ?_
  refine call_Vi (n := 0) (As := []) (ws' := mW k q wk dk lg dt lo true true la lf sh) ⟨hx, hb, hml, hown, htw⟩ (c_Model_loggedMany l D k q wk dk lg dt lo true true la lf sh) (in_V tw_240 tw_242 tw_7 tw_11 tw_243) (by decide +kernel) ⟨rfl, rfl, Nat.le_of_ble_eq_true rfl, Nat.le_of_ble_eq_true rfl⟩ hK hN hP hD hS hA [0, 1, 2, 3, 4, 5] [] [0, 1, 2, 3, 4, 5] rfl rfl ([]) rfl rfl (by decide) rfl rfl 2 rfl 0 rfl hl.1 rfl rfl (Nat.le_of_ble_eq_true rfl) d_Model_start_29 ⟨Nat.zero_le _, Nat.zero_le _⟩ (fun H locs hP hD hS => ?_)
  refine lv_iload_n hx hb d_Model_start_32 rfl (lv_at hl 1 rfl) ?_
  refine my_imul hx hb (x := cnt lo 24) (y := 1000) d_Model_start_33 ?_
  refine lv_sipush (v := (nI 1000)) hx hb d_Model_start_34 (by decide) ?_
  refine my_idiv hx hb (x := (cnt lo 24) * 1000) (y := 1000) (by omega) (by omega) (by omega) d_Model_start_37 ?_
  refine lv_as (y := nI (cnt lo 24)) (congrArg nI (Nat.mul_div_cancel _ (by decide))) ?_
  refine call_Vv (n := 1) (As := [.int (nI (cnt lo 24))]) (ws' := mW k q wk (layN 24 lo (cnt lo 24) lg dk) lg dt lo true true la lf sh) ⟨hx, hb, hml, hown, htw⟩ (c_Model_lay l D k q wk dk lg dt lo true true la lf sh (cnt lo 24) (by omega)) (in_V tw_220 tw_222 tw_5 tw_11 tw_223) (by decide +kernel) ⟨rfl, rfl, Nat.le_of_ble_eq_true rfl, Nat.le_of_ble_eq_true rfl⟩ hK hN hP hD hS hA [0, 1, 2, 3, 4, 5] [] [0, 1, 2, 3, 4, 5] rfl rfl ([]) rfl rfl (by decide) rfl rfl 2 rfl 0 rfl hl.1 rfl rfl (Nat.le_of_ble_eq_true rfl) d_Model_start_38 ⟨Nat.zero_le _, Nat.zero_le _⟩ (fun H locs hP hD hS => ?_)
  refine lv_iload_n hx hb d_Model_start_41 rfl (lv_at hl 1 rfl) ?_
  refine lv_sipush (v := (nI 1000)) hx hb d_Model_start_42 (by decide) ?_
  refine my_icmpge (tgt := 50) hx hb (x := 1000) (y := 1000) (by omega) (by omega) d_Model_start_45 (by decide) (fun c_45 => ?_) (fun c_45 => absurd c_45 (by omega))
  refine lv_aload_n hx hb d_Model_start_50 rfl (lv_at hl 0 rfl) ?_
  refine lv_iconst (v := (nI 0)) hx hb d_Model_start_51 (by decide) ?_
  refine lv_as (y := (bI false)) rfl ?_
  refine va_put (D := D) (ci := 2) (v := .int (bI false)) (ty := .boolean) (C := R_Model) (T := F_Model) (N := 10) hx hb htw i_Model t_Model t_Model_ok n_Model hown hK hP hD hS 0 rfl rfl 6 (by decide) (htw _ tw_158) (fun _ h9 => h9) rfl (by decide +kernel) (bI_nar _) (bI_fit _) (Nat.le_of_ble_eq_true rfl) d_Model_start_52 (fun H locs hP hD hS => ?_)
  have hP : va_P D classes (mW k q wk (layN 24 lo (cnt lo 24) lg dk) lg dt lo true false la lf sh) H := hP
  have hD : va_D A (mW k q wk (layN 24 lo (cnt lo 24) lg dk) lg dt lo true false la lf sh) := hD
  refine lv_aload_n hx hb d_Model_start_55 rfl (lv_at hl 0 rfl) ?_
  refine lv_iconst (v := (nI 0)) hx hb d_Model_start_56 (by decide) ?_
  refine lv_as (y := (bI false)) rfl ?_
  refine va_put (D := D) (ci := 2) (v := .int (bI false)) (ty := .boolean) (C := R_Model) (T := F_Model) (N := 10) hx hb htw i_Model t_Model t_Model_ok n_Model hown hK hP hD hS 0 rfl rfl 5 (by decide) (htw _ tw_157) (fun _ h9 => h9) rfl (by decide +kernel) (bI_nar _) (bI_fit _) (Nat.le_of_ble_eq_true rfl) d_Model_start_57 (fun H locs hP hD hS => ?_)
  have hP : va_P D classes (mW k q wk (layN 24 lo (cnt lo 24) lg dk) lg dt lo false false la lf sh) H := hP
  have hD : va_D A (mW k q wk (layN 24 lo (cnt lo 24) lg dk) lg dt lo false false la lf sh) := hD
  refine lv_aload_n hx hb d_Model_start_60 rfl (lv_at hl 0 rfl) ?_
  refine call_Vv (n := 0) (As := []) (ws' := mW k q (cpA 24 (layN 24 lo (cnt lo 24) lg dk) wk) (layN 24 lo (cnt lo 24) lg dk) lg (clr 24 dt) lo false false la lf sh) ⟨hx, hb, hml, hown, htw⟩ (c_Model_fresh l D k q wk (layN 24 lo (cnt lo 24) lg dk) lg dt lo false false la lf sh) (in_V tw_228 tw_230 tw_6 tw_11 tw_231) (by decide +kernel) ⟨rfl, rfl, Nat.le_of_ble_eq_true rfl, Nat.le_of_ble_eq_true rfl⟩ hK hN hP hD hS hA [0, 1, 2, 3, 4, 5] [] [0, 1, 2, 3, 4, 5] rfl rfl ([]) rfl rfl (by decide) rfl rfl 2 rfl 0 rfl hl.1 rfl rfl (Nat.le_of_ble_eq_true rfl) d_Model_start_61 ⟨Nat.zero_le _, Nat.zero_le _⟩ (fun H locs hP hD hS => ?_)
  refine lv_iconst (v := (nI 1)) hx hb d_Model_start_64 (by decide) ?_
  refine lv_as (y := (bI true)) rfl ?_
  exact ret_z hx hb hr hlocks hK hP hD hS (v := true) rfl d_Model_start_65
set_option maxHeartbeats 4000000 in
set_option maxRecDepth 100000 in
theorem c_Model_state_0 (l : Launch) (D : va_G) (k : Nat → ClassId) (q : Nat → Nat) (wk : Nat → Int8) (dk : Nat → Int8) (lg : Nat → Int8) (dt : Nat → Bool) (lo : Nat → Bool) (off : Bool) (mk : Bool) (la : Nat) (lf : Int32) (sh : Nat) : Ci l D (tyK k) y_Model_state k_Model_state ({ frames := 0, cells := 0, slots := 0, locals := 0 }) [.ref (q 7), .int (nI 0)] (mW k q wk dk lg dt lo off mk la lf sh) (bI (!off)) (mW k q wk dk lg dt lo off mk la lf sh) := by
  refine open_i (by decide) (Nat.le_of_ble_eq_true rfl) ?_
  intro pg ev s m below meth c A hx hb hml hr hlocks htw hown hnm hA hS hP hK hD hN ls hl
  have hown : s.vm.findClass R_Model = some m.cls := hown
  have hl : lv_has ls 2 [(0, .ref (q 7)), (1, .int (nI 0))] := hl
  refine lv_iload_n hx hb d_Model_state_0 rfl (lv_at hl 1 rfl) ?_
  refine lv_tableIn (off := 27) (tgt := 28) hx hb d_Model_state_1 (by decide) (by decide) (by decide) (by decide) ?_
  refine lv_aload_n hx hb d_Model_state_28 rfl (lv_at hl 0 rfl) ?_
  refine va_get (D := D) (ci := 2) (v := .int (bI off)) (C := R_Model) (T := F_Model) (N := 10) hx hb htw i_Model hown hK hP 0 rfl rfl 5 (by decide) (htw _ tw_157) (fun _ h9 => h9) rfl d_Model_state_29 ?_
  refine my_ifeq (tgt := 39) hx hb d_Model_state_32 (by decide) (fun c_32 => ?_) (fun c_32 => ?_)
  · refine lv_iconst (v := (nI 1)) hx hb d_Model_state_39 (by decide) ?_
    exact ret_i hx hb hr hlocks hK hP hD hS (by rw [c_32]; rfl) d_Model_state_40
  · refine lv_iconst (v := (nI 0)) hx hb d_Model_state_35 (by decide) ?_
    refine lv_goto (tgt := 40) hx hb d_Model_state_36 (by decide) ?_
    exact ret_i hx hb hr hlocks hK hP hD hS (by rw [c_32]; rfl) d_Model_state_40
set_option maxHeartbeats 4000000 in
set_option maxRecDepth 100000 in
theorem c_Model_state_1 (l : Launch) (D : va_G) (k : Nat → ClassId) (q : Nat → Nat) (wk : Nat → Int8) (dk : Nat → Int8) (lg : Nat → Int8) (dt : Nat → Bool) (lo : Nat → Bool) (off : Bool) (mk : Bool) (la : Nat) (lf : Int32) (sh : Nat) : Ci l D (tyK k) y_Model_state k_Model_state ({ frames := 0, cells := 0, slots := 0, locals := 0 }) [.ref (q 7), .int (nI 1)] (mW k q wk dk lg dt lo off mk la lf sh) (bI mk) (mW k q wk dk lg dt lo off mk la lf sh) := by
  refine open_i (by decide) (Nat.le_of_ble_eq_true rfl) ?_
  intro pg ev s m below meth c A hx hb hml hr hlocks htw hown hnm hA hS hP hK hD hN ls hl
  have hown : s.vm.findClass R_Model = some m.cls := hown
  have hl : lv_has ls 2 [(0, .ref (q 7)), (1, .int (nI 1))] := hl
  refine lv_iload_n hx hb d_Model_state_0 rfl (lv_at hl 1 rfl) ?_
  refine lv_tableIn (off := 40) (tgt := 41) hx hb d_Model_state_1 (by decide) (by decide) (by decide) (by decide) ?_
  refine lv_aload_n hx hb d_Model_state_41 rfl (lv_at hl 0 rfl) ?_
  refine va_get (D := D) (ci := 2) (v := .int (bI mk)) (C := R_Model) (T := F_Model) (N := 10) hx hb htw i_Model hown hK hP 0 rfl rfl 6 (by decide) (htw _ tw_158) (fun _ h9 => h9) rfl d_Model_state_42 ?_
  refine my_ifeq (tgt := 52) hx hb d_Model_state_45 (by decide) (fun c_45 => ?_) (fun c_45 => ?_)
  · refine lv_iconst (v := (nI 0)) hx hb d_Model_state_52 (by decide) ?_
    exact ret_i hx hb hr hlocks hK hP hD hS (by rw [c_45]; rfl) d_Model_state_53
  · refine lv_iconst (v := (nI 1)) hx hb d_Model_state_48 (by decide) ?_
    refine lv_goto (tgt := 53) hx hb d_Model_state_49 (by decide) ?_
    exact ret_i hx hb hr hlocks hK hP hD hS (by rw [c_45]; rfl) d_Model_state_53
set_option maxHeartbeats 4000000 in
set_option maxRecDepth 100000 in
theorem c_Model_state_2 (l : Launch) (D : va_G) (k : Nat → ClassId) (q : Nat → Nat) (wk : Nat → Int8) (dk : Nat → Int8) (lg : Nat → Int8) (dt : Nat → Bool) (lo : Nat → Bool) (off : Bool) (mk : Bool) (la : Nat) (lf : Int32) (sh : Nat) : Ci l D (tyK k) y_Model_state k_Model_state ({ frames := 0, cells := 0, slots := 0, locals := 0 }) [.ref (q 7), .int (nI 2)] (mW k q wk dk lg dt lo off mk la lf sh) (nI la) (mW k q wk dk lg dt lo off mk la lf sh) := by
  refine open_i (by decide) (Nat.le_of_ble_eq_true rfl) ?_
  intro pg ev s m below meth c A hx hb hml hr hlocks htw hown hnm hA hS hP hK hD hN ls hl
  have hown : s.vm.findClass R_Model = some m.cls := hown
  have hl : lv_has ls 2 [(0, .ref (q 7)), (1, .int (nI 2))] := hl
  refine lv_iload_n hx hb d_Model_state_0 rfl (lv_at hl 1 rfl) ?_
  refine lv_tableIn (off := 53) (tgt := 54) hx hb d_Model_state_1 (by decide) (by decide) (by decide) (by decide) ?_
  refine lv_aload_n hx hb d_Model_state_54 rfl (lv_at hl 0 rfl) ?_
  refine va_get (D := D) (ci := 2) (v := .int (nI la)) (C := R_Model) (T := F_Model) (N := 10) hx hb htw i_Model hown hK hP 0 rfl rfl 7 (by decide) (htw _ tw_159) (fun _ h9 => h9) rfl d_Model_state_55 ?_
  exact ret_i hx hb hr hlocks hK hP hD hS rfl d_Model_state_58
set_option maxHeartbeats 4000000 in
set_option maxRecDepth 100000 in
theorem c_Model_state_n (l : Launch) (D : va_G) (k : Nat → ClassId) (q : Nat → Nat) (wk : Nat → Int8) (dk : Nat → Int8) (lg : Nat → Int8) (dt : Nat → Bool) (lo : Nat → Bool) (off : Bool) (mk : Bool) (la : Nat) (lf : Int32) (sh : Nat) (a : Int32) (h0 : ¬ a = nI 0) (h1 : ¬ a = nI 1) (h2 : ¬ a = nI 2) : Ci l D (tyK k) y_Model_state k_Model_state ({ frames := 0, cells := 0, slots := 0, locals := 0 }) [.ref (q 7), .int a] (mW k q wk dk lg dt lo off mk la lf sh) (-1) (mW k q wk dk lg dt lo off mk la lf sh) := by
  refine open_i (by decide) (Nat.le_of_ble_eq_true rfl) ?_
  intro pg ev s m below meth c A hx hb hml hr hlocks htw hown hnm hA hS hP hK hD hN ls hl
  have hown : s.vm.findClass R_Model = some m.cls := hown
  have hl : lv_has ls 2 [(0, .ref (q 7)), (1, .int a)] := hl
  refine lv_iload_n hx hb d_Model_state_0 rfl (lv_at hl 1 rfl) ?_
  refine lv_tableOut (tgt := 59) hx hb d_Model_state_1 (swN h0 h1 h2) (by decide) ?_
  refine lv_iconst (v := -1) hx hb d_Model_state_59 (by decide) ?_
  exact ret_i hx hb hr hlocks hK hP hD hS rfl d_Model_state_60
end
section
/-! THE PLAIN LAW: no program in sight -/
theorem cnt_mono (lo : Nat → Bool) {a b : Nat} (h : a ≤ b) : cnt lo a ≤ cnt lo b := by
  induction b with
  | zero => rw [Nat.le_zero.mp h]; exact Nat.le_refl _
  | succ b ih =>
    by_cases e : a = b + 1
    · rw [e]; exact Nat.le_refl _
    · have h1 := ih (by omega)
      have h2 : cnt lo b ≤ cnt lo (b + 1) := by
        show cnt lo b ≤ cnt lo b + _
        omega
      omega
theorem cnt_lt {lo : Nat → Bool} {a b : Nat} (ha : lo a = true) (h : a < b) : cnt lo a < cnt lo b := by
  have h1 := cnt_t ha
  have h2 := cnt_mono lo (show a + 1 ≤ b from h)
  omega
theorem cnt_inj {lo : Nat → Bool} {a b : Nat} (ha : lo a = true) (hb : lo b = true) (h : cnt lo a = cnt lo b) : a = b := by
  rcases Nat.lt_trichotomy a b with z | z | z
  · have := cnt_lt ha z; omega
  · exact z
  · have := cnt_lt hb z; omega
theorem fl_en (dt : Nat → Bool) (ld : Nat → Nat) (n : Nat) : ∀ k, k < cnt dt n → dt (fl dt ld n k) = true ∧ cnt dt (fl dt ld n k) = k := by
  induction n with
  | zero => intro k h; simp [cnt] at h
  | succ n ih =>
    intro k h
    by_cases hd : dt n = true
    · rw [← fl_t hd]
      rw [← cnt_t hd] at h
      unfold va_up
      by_cases e : k = cnt dt n
      · rw [if_pos e]; exact ⟨hd, e.symm⟩
      · rw [if_neg e]
        exact ih k (by omega)
    · have hd : dt n = false := by simpa using hd
      rw [← fl_f hd]
      rw [← cnt_f hd] at h
      exact ih k h
theorem fl_at {dt : Nat → Bool} (ld : Nat → Nat) {n b : Nat} (hd : dt b = true) (hb : b < n) : fl dt ld n (cnt dt b) = b := by
  obtain ⟨h1, h2⟩ := fl_en dt ld n (cnt dt b) (cnt_lt hd hb)
  exact cnt_inj h1 hd h2
theorem lgN_eq (wk : Nat → Int8) (ld : Nat → Nat) (lg : Nat → Int8) (n j : Nat) : lgN wk ld lg n j = if j < 16 * n then wk (16 * ld (j / 16) + j % 16) else lg j := by
  induction n with
  | zero => simp [lgN]
  | succ n ih =>
    show va_cpy wk (lgN wk ld lg n) (16 * ld n) (16 * n) 16 j = _
    unfold va_cpy
    by_cases h : 16 * n ≤ j ∧ j < 16 * n + 16
    · have e : j / 16 = n := by omega
      rw [if_pos h, if_pos (by omega), e]
      congr 1; omega
    · rw [if_neg h, ih]
      by_cases h2 : j < 16 * n
      · rw [if_pos h2, if_pos (by omega)]
      · rw [if_neg h2, if_neg (by omega)]
/-- the list in the log, and the log's blocks, against the model's: the marked blocks in their order -/
def EN (lo : Nat → Bool) (ld : Nat → Nat) (ct : Nat) (lg lg2 : Nat → Int8) : Prop :=
  ct = cnt lo 24 ∧ (∀ k, k < ct → ld k < 24 ∧ lo (ld k) = true ∧ cnt lo (ld k) = k) ∧ ∀ j, j < 384 → lo (j / 16) = true → lg2 j = lg (16 * cnt lo (j / 16) + j % 16)
theorem hmN_lay {lo : Nat → Bool} {ld : Nat → Nat} {ct : Nat} {lg lg2 : Nat → Int8} (h : EN lo ld ct lg lg2) (hm : Nat → Int8) {n : Nat} (hn : n ≤ ct) : hmN lg ld hm n = layN 24 lo n lg2 hm := by
  obtain ⟨h1, h2, h3⟩ := h
  induction n with
  | zero =>
    funext j
    unfold layN
    rw [if_neg (by omega)]; rfl
  | succ n ih =>
    rw [← hmN_s, ih (by omega)]
    obtain ⟨g1, g2, g3⟩ := h2 n (by omega)
    funext j
    unfold va_cpy layN
    by_cases h : 16 * ld n ≤ j ∧ j < 16 * ld n + 16
    · have e : j / 16 = ld n := by omega
      rw [if_pos h, if_pos ⟨by omega, by rw [e]; exact g2, by rw [e, g3]; omega⟩, h3 j (by omega) (by rw [e]; exact g2), e, g3]
      congr 1; omega
    · rw [if_neg h]
      by_cases c : j < 16 * 24 ∧ lo (j / 16) = true ∧ cnt lo (j / 16) < n
      · rw [if_pos c, if_pos ⟨c.1, c.2.1, by omega⟩]
      · rw [if_neg c, if_neg]
        intro z
        have e : cnt lo (j / 16) = n := by
          have := z.2.2
          rcases Nat.lt_or_ge (cnt lo (j / 16)) n with y | y
          · exact absurd ⟨z.1, z.2.1, y⟩ c
          · omega
        have := cnt_inj z.2.1 g2 (e.trans g3.symm)
        omega
theorem cnt_cpL (dt lo : Nat → Bool) {n : Nat} (hn : n ≤ 24) : cnt (cpL 24 dt lo) n = cnt dt n := by
  induction n with
  | zero => rfl
  | succ n ih =>
    have e : cpL 24 dt lo n = dt n := by unfold cpL; rw [if_pos (by omega)]
    show cnt (cpL 24 dt lo) n + (if cpL 24 dt lo n = true then 1 else 0) = cnt dt n + (if dt n = true then 1 else 0)
    rw [e, ih (by omega)]
theorem cpL_at (dt lo : Nat → Bool) {j : Nat} (h : j < 24) : cpL 24 dt lo j = dt j := by unfold cpL; rw [if_pos h]
theorem EN_commit (dt lo : Nat → Bool) (ld : Nat → Nat) (wk lg lg2 : Nat → Int8) : EN (cpL 24 dt lo) (fl dt ld 24) (cnt dt 24) (lgN wk (fl dt ld 24) lg (cnt dt 24)) (cpD 24 dt wk lg2) := by
  refine ⟨(cnt_cpL dt lo (Nat.le_refl _)).symm, fun k hk => ?_, fun j hj hl => ?_⟩
  · have h1 := fl_lt dt ld 24 k hk
    obtain ⟨h2, h3⟩ := fl_en dt ld 24 k hk
    exact ⟨h1, by rw [cpL_at _ _ h1]; exact h2, by rw [cnt_cpL _ _ (by omega)]; exact h3⟩
  · have hq : j / 16 < 24 := by omega
    rw [cpL_at _ _ hq] at hl
    have hc := cnt_lt hl hq
    rw [cnt_cpL _ _ (by omega), lgN_eq, if_pos (by omega)]
    have e1 : (16 * cnt dt (j / 16) + j % 16) / 16 = cnt dt (j / 16) := by omega
    have e2 : (16 * cnt dt (j / 16) + j % 16) % 16 = j % 16 := by omega
    rw [e1, e2, fl_at ld hl hq]
    unfold cpD
    rw [if_pos ⟨by omega, hl⟩]
    congr 1; omega
theorem dcl_in {ld : Nat → Nat} {dt : Nat → Bool} {n k : Nat} (hk : k < n) : dcl ld dt n (ld k) = false := by
  induction n with
  | zero => omega
  | succ n ih =>
    rw [← dcl_s]
    unfold va_up
    by_cases e : ld k = ld n
    · rw [if_pos e]
    · rw [if_neg e]
      have : k ≠ n := fun z => e (by rw [z])
      exact ih (by omega)
theorem dcl_out {ld : Nat → Nat} {dt : Nat → Bool} {n j : Nat} (h : ∀ k, k < n → ld k ≠ j) : dcl ld dt n j = dt j := by
  induction n with
  | zero => rfl
  | succ n ih =>
    rw [← dcl_s]
    unfold va_up
    rw [if_neg (fun z => h n (by omega) z.symm)]
    exact ih (fun k hk => h k (by omega))
theorem dcl_clr (dt : Nat → Bool) (ld : Nat → Nat) : dcl (fl dt ld 24) dt (cnt dt 24) = clr 24 dt := by
  funext j
  unfold clr
  by_cases h : j < 24
  · rw [if_pos h]
    cases hd : dt j with
    | true =>
      have := dcl_in (ld := fl dt ld 24) (dt := dt) (cnt_lt hd h)
      rwa [fl_at ld hd h] at this
    | false =>
      rw [dcl_out (fun k hk z => ?_), hd]
      have := (fl_en dt ld 24 k hk).1
      rw [z, hd] at this
      cases this
  · rw [if_neg h, dcl_out (fun k hk z => ?_)]
    have := fl_lt dt ld 24 k hk
    omega
theorem clr_clr (dt : Nat → Bool) : clr 24 (clr 24 dt) = clr 24 dt := by
  funext j
  unfold clr
  by_cases h : j < 24
  · rw [if_pos h, if_pos h]
  · rw [if_neg h, if_neg h]
/-- clean blocks are at work what they are at home -/
def CL (wk hm : Nat → Int8) (dt : Nat → Bool) : Prop := ∀ j, j < 384 → dt (j / 16) = false → wk j = hm j
theorem CL_write {wk hm : Nat → Int8} {dt : Nat → Bool} (h : CL wk hm dt) {b p : Nat} (hp : p < 16) (v : Int8) : CL (va_up wk (16 * b + p) v) hm (va_up dt b true) := by
  intro j hj hd
  unfold va_up at hd ⊢
  by_cases e : j / 16 = b
  · rw [if_pos e] at hd; cases hd
  · rw [if_neg e] at hd
    rw [if_neg (by omega)]
    exact h j hj hd
theorem CL_revert {wk hm : Nat → Int8} {dt : Nat → Bool} (h : CL wk hm dt) : cpD 24 dt hm wk = cpA 24 hm wk := by
  funext j
  unfold cpD cpA
  by_cases h1 : j < 16 * 24
  · rw [if_pos h1]
    by_cases h2 : dt (j / 16) = true
    · rw [if_pos ⟨h1, h2⟩]
    · rw [if_neg (fun z => h2 z.2)]
      exact h j (by omega) (by simpa using h2)
  · rw [if_neg h1, if_neg (fun z => h1 z.1)]
theorem CL_fresh (wk hm : Nat → Int8) (dt : Nat → Bool) : CL (cpA 24 hm wk) hm dt := by
  intro j hj _
  unfold cpA
  rw [if_pos (by omega)]
theorem CL_commit {wk hm : Nat → Int8} {dt : Nat → Bool} (lo : Nat → Bool) (lg2 : Nat → Int8) (h : CL wk hm dt) : CL wk (layN 24 (cpL 24 dt lo) (cnt dt 24) (cpD 24 dt wk lg2) hm) (clr 24 dt) := by
  intro j hj _
  have hq : j / 16 < 24 := by omega
  unfold layN cpD
  rw [cpL_at _ _ hq, cnt_cpL _ _ (by omega)]
  by_cases hd : dt (j / 16) = true
  · rw [if_pos ⟨by omega, hd, cnt_lt hd hq⟩, if_pos ⟨by omega, hd⟩]
  · rw [if_neg (fun z => hd z.2.1)]
    exact h j hj (by simpa using hd)
/-- until against left -/
def LR (un : Nat) (lf : Int32) : Prop := (1 ≤ un ∧ un ≤ 1000 ∧ lf = nI un) ∨ (un = 0 ∧ lf ≤ 0)
/-- THE INVARIANT between the class and the model (what they share is written once) -/
def IV (wk hm lg : Nat → Int8) (dt : Nat → Bool) (ld : Nat → Nat) (ct : Nat) (mk on : Bool) (un sh : Nat) (lg2 : Nat → Int8) (dt2 lo : Nat → Bool) (lf : Int32) : Prop :=
  LR un lf ∧ sh < 1000 ∧ ct ≤ 24 ∧ (∀ j, j < ct → ld j < 24) ∧ clr 24 dt = clr 24 dt2 ∧ (on = true → mk = false ∧ dt2 = dt ∧ CL wk hm dt) ∧ (mk = true → EN lo ld ct lg lg2)
theorem IV_A {wk hm lg : Nat → Int8} {dt : Nat → Bool} {ld : Nat → Nat} {ct : Nat} {sh : Nat} {lg2 : Nat → Int8} {dt2 lo : Nat → Bool} {lf : Int32} (n : Nat) (h : IV wk hm lg dt ld ct false true 1 sh lg2 dt2 lo lf) : IV wk hm (lgN wk (fl dt ld 24) lg n) dt (fl dt ld 24) (cnt dt 24) false false 0 sh lg2 dt2 lo (nI 0) := by
  obtain ⟨h1, h2, h3, h4, h5, h6, h7⟩ := h
  exact ⟨Or.inr ⟨rfl, by decide⟩, h2, cnt_le dt 24, fl_lt dt ld 24, h5, fun z => absurd z (by decide), fun z => absurd z (by decide)⟩
theorem IV_B {wk hm lg : Nat → Int8} {dt : Nat → Bool} {ld : Nat → Nat} {ct : Nat} {sh : Nat} {lg2 : Nat → Int8} {dt2 lo : Nat → Bool} {lf : Int32} (hm' : Nat → Int8) (h : IV wk hm lg dt ld ct false true 1 sh lg2 dt2 lo lf) : IV wk hm' (lgN wk (fl dt ld 24) lg (cnt dt 24)) dt (fl dt ld 24) (cnt dt 24) true false 0 sh (cpD 24 dt wk lg2) (clr 24 dt) (cpL 24 dt lo) (nI 0) := by
  obtain ⟨h1, h2, h3, h4, h5, h6, h7⟩ := h
  exact ⟨Or.inr ⟨rfl, by decide⟩, h2, cnt_le dt 24, fl_lt dt ld 24, (clr_clr dt).symm, fun z => absurd z (by decide), fun _ => EN_commit dt lo ld wk lg lg2⟩
theorem IV_C {wk hm lg : Nat → Int8} {dt : Nat → Bool} {ld : Nat → Nat} {ct un un' : Nat} {sh : Nat} {lg2 : Nat → Int8} {dt2 lo : Nat → Bool} {lf lf' : Int32} (hl : LR un' lf') (h : IV wk hm lg dt ld ct false true un sh lg2 dt2 lo lf) : IV wk (layN 24 (cpL 24 dt lo) (cnt dt 24) (cpD 24 dt wk lg2) hm) (lgN wk (fl dt ld 24) lg (cnt dt 24)) (clr 24 dt) (fl dt ld 24) (cnt dt 24) false true un' sh (cpD 24 dt wk lg2) (clr 24 dt) (cpL 24 dt lo) lf' := by
  obtain ⟨h1, h2, h3, h4, h5, h6, h7⟩ := h
  exact ⟨hl, h2, cnt_le dt 24, fl_lt dt ld 24, rfl, fun _ => ⟨rfl, rfl, CL_commit lo lg2 (h6 rfl).2.2⟩, fun z => absurd z (by decide)⟩
theorem IV_write {wk hm lg : Nat → Int8} {dt : Nat → Bool} {ld : Nat → Nat} {ct un : Nat} {sh : Nat} {lg2 : Nat → Int8} {dt2 lo : Nat → Bool} {lf : Int32} {b p : Nat} (hp : p < 16) (v : Int8) (h : IV wk hm lg dt ld ct false true un sh lg2 dt2 lo lf) : IV (va_up wk (16 * b + p) v) hm lg (va_up dt b true) ld ct false true un sh lg2 (va_up dt b true) lo lf := by
  obtain ⟨h1, h2, h3, h4, h5, h6, h7⟩ := h
  exact ⟨h1, h2, h3, h4, rfl, fun _ => ⟨rfl, rfl, CL_write (h6 rfl).2.2 hp v⟩, fun z => absurd z (by decide)⟩
theorem IV_fresh {wk hm lg : Nat → Int8} {dt : Nat → Bool} {ld : Nat → Nat} {ct un : Nat} {mk on : Bool} {sh : Nat} {lg2 : Nat → Int8} {dt2 lo : Nat → Bool} {lf : Int32} (hm' : Nat → Int8) (h : IV wk hm lg dt ld ct mk on un sh lg2 dt2 lo lf) : IV (cpA 24 hm' wk) hm' lg (clr 24 dt) ld ct false true un sh lg2 (clr 24 dt) lo lf := by
  obtain ⟨h1, h2, h3, h4, h5, h6, h7⟩ := h
  exact ⟨h1, h2, h3, h4, rfl, fun _ => ⟨rfl, rfl, CL_fresh wk hm' _⟩, fun z => absurd z (by decide)⟩
theorem IV_cut {wk hm lg : Nat → Int8} {dt : Nat → Bool} {ld : Nat → Nat} {ct un : Nat} {mk on : Bool} {sh : Nat} {lg2 : Nat → Int8} {dt2 lo : Nat → Bool} {lf : Int32} {n a : Nat} (g1 : 1 ≤ n) (g2 : n ≤ 1000) (g3 : a < 1000) (h : IV wk hm lg dt ld ct mk on un sh lg2 dt2 lo lf) : IV wk hm lg dt ld ct mk on n a lg2 dt2 lo (nI n) := by
  obtain ⟨h1, h2, h3, h4, h5, h6, h7⟩ := h
  exact ⟨Or.inl ⟨g1, g2, rfl⟩, g3, h3, h4, h5, h6, h7⟩
theorem IV_home {wk hm lg : Nat → Int8} {dt : Nat → Bool} {ld : Nat → Nat} {ct un : Nat} {mk : Bool} {sh : Nat} {lg2 : Nat → Int8} {dt2 lo : Nat → Bool} {lf : Int32} (hm' : Nat → Int8) (h : IV wk hm lg dt ld ct mk false un sh lg2 dt2 lo lf) : IV wk hm' lg dt ld ct mk false un sh lg2 dt2 lo lf := by
  obtain ⟨h1, h2, h3, h4, h5, h6, h7⟩ := h
  exact ⟨h1, h2, h3, h4, h5, fun z => absurd z (by decide), h7⟩
theorem IV_0 : IV (fun _ => 0) (fun _ => 0) (fun _ => 0) (fun _ => false) (fun _ => 0) 0 false true 0 0 (fun _ => 0) (fun _ => false) (fun _ => false) (nI 0) :=
  ⟨Or.inr ⟨rfl, by decide⟩, by decide, by decide, fun j h => by omega, rfl, fun _ => ⟨rfl, rfl, fun _ _ _ => rfl⟩, fun z => absurd z (by decide)⟩
end
section
/-! the constructors: they make cells -/
def BdN (l : Launch) (D : va_G) (tys : List (ClassId × FieldType)) (y : MethodName) (cc : ByteArray) (maxL : Nat) (ret : Option FieldType) (rm : Room) (av : List Value) (ws : va_W) (Qc : (Nat → Prop) → Array Value → State → Outcome → State → Prop) (mc ms : Nat) : Prop :=
  ∀ (p : Program) (e : Env) (s : State) (m : MethodId) (below : List Frame) (meth : Method) (c : Code) (A : Nat → Prop), p.tables.exec = Jvm.exec → c.code = cc → c.maxLocals = maxL → meth.sig.returnType = ret → meth.locks = false → (∀ w ∈ TW, w.before av.toArray s = true) → s.vm.findClass y.cls = some m.cls → meth.name = y.name →
    (∀ q : Nat, s.heap.size ≤ q → A q) → va_S A s.heap s.heap [] → va_P D classes ws s.heap → va_K D classes tys s → va_D A ws → NW s → ∀ ls : Array Slot, lv_has ls maxL (lv_args 0 av) → W p l e rm s m av.toArray below meth c s.heap [] 0 0 (MQ below (Qc A) av.toArray s mc ms A) (F0 m 0 ls [])
theorem open_MetN {l : Launch} {D : va_G} {tys : List (ClassId × FieldType)} {y : MethodName} {cc : ByteArray} {maxL mc ms : Nat} {ret : Option FieldType} {rm : Room} {av : List Value} {ws : va_W} {Qc : (Nat → Prop) → Array Value → State → Outcome → State → Prop} (hy : plainName y.cls = true) (hn : (lg_sl av).length ≤ maxL) (h : BdN l D tys y cc maxL ret rm av ws Qc mc ms) (sz : Nat) :
    Met l y (.code y cc maxL ret :: TW) rm (va_Pc av (PW D tys sz ws)) (Qc (va_A ws sz)) mc ms (va_A ws sz) := by
  refine Met.ofW (cc := cc) (maxL := maxL) (ret := ret) hy rfl ?_
  intro p e s m args below meth c s₁ B hml hv
  obtain ⟨rfl, hsz, hP, hK, hD0, hN⟩ := hv
  have hts := atoms_spec (ws := .code y cc maxL ret :: TW) B.pre
  subst hsz
  have hl := lv_entry av (n := maxL) hn
  rw [lg_entry_eq]
  exact h p e s m below meth c (va_A ws s.heap.size) B.exec B.bytes hml B.returns B.notSynchronized (fun w hw => hts w (List.mem_cons_of_mem _ hw)) (findClass_of_methodNamed B.named) (name_of_methodNamed B.named B.method).1 (fun q hq => Or.inr hq) va_S.rf hP hK hD0.self hN _ hl
theorem ty_B {D : va_G} {cl : List vw_C} {tys : List (ClassId × FieldType)} {s : State} (hK : va_K D cl tys s) (i j : Nat) {c1 c2 : ClassId} (h1 : tys[i]? = some (c1, .byte)) (h2 : tys[j]? = some (c2, .byte)) : c1 = c2 := Option.some.inj ((va_nm_byte (hK.2 i _ h1).2).symm.trans (va_nm_byte (hK.2 j _ h2).2))
theorem ty_Z {D : va_G} {cl : List vw_C} {tys : List (ClassId × FieldType)} {s : State} (hK : va_K D cl tys s) (i j : Nat) {c1 c2 : ClassId} (h1 : tys[i]? = some (c1, .boolean)) (h2 : tys[j]? = some (c2, .boolean)) : c1 = c2 := Option.some.inj ((va_nm_boolean (hK.2 i _ h1).2).symm.trans (va_nm_boolean (hK.2 j _ h2).2))
abbrev zB : Nat → Int8 := fun _ => 0
abbrev zZ : Nat → Bool := fun _ => false
abbrev zN : Nat → Nat := fun _ => 0
theorem cell_zB (cA : ClassId) : vp_cell cA (384, .inl (eB zB)) = arrV cA 384 (fun _ => defaultValue .byte) := rfl
theorem cell_zZ (cA : ClassId) : vp_cell cA (24, .inl (eZ zZ)) = arrV cA 24 (fun _ => defaultValue .boolean) := rfl
theorem cell_zN (cA : ClassId) : vp_cell cA (24, .inl (eN zN)) = arrV cA 24 (fun _ => defaultValue .int) := rfl
abbrev f0_Disk : List Value := [.null, .null, .null, .null, .null, .int (nI 0), .int (bI false), .int (bI false), .int (nI 0), .int (nI 0)]
abbrev f0_Model : List Value := [.null, .null, .null, .null, .null, .int (bI false), .int (bI false), .int (nI 0), .int (nI 0), .int (nI 0)]
set_option maxHeartbeats 4000000 in
set_option maxRecDepth 100000 in
theorem c_Disk_init (l : Launch) (D : va_G) (h : Nat) (sz : Nat) : Met l y_Disk_init (k_Disk_init :: TW) ({ frames := 1, cells := 5, slots := 1200, locals := 12 }) (va_Pc [.ref h] (PW D [] sz [(h, .inr (1, f0_Disk))])) (va_Qv (fun u : (Nat → ClassId) × (Nat → Nat) => u.2 1 = h) (fun u t => QW D (tyK u.1) (va_A [(h, .inr (1, f0_Disk))] sz) (dW u.1 u.2 zB zB zB zZ zN 0 false true 0 0) t) (va_A [(h, .inr (1, f0_Disk))] sz)) 5 1200 (va_A [(h, .inr (1, f0_Disk))] sz) := by
  refine open_MetN (Qc := fun A => va_Qv (fun u : (Nat → ClassId) × (Nat → Nat) => u.2 1 = h) (fun u t => QW D (tyK u.1) A (dW u.1 u.2 zB zB zB zZ zN 0 false true 0 0) t) A) (by decide) (Nat.le_of_ble_eq_true rfl) ?_ sz
  intro pg ev s m below meth c A hx hb hml hr hlocks htw hown hnm hA hS hP hK hD hN ls hl
  have hown : s.vm.findClass R_Disk = some m.cls := hown
  have hl : lv_has ls 1 [(0, .ref h)] := hl
  refine lv_aload_n hx hb d_Disk_init_0 rfl (lv_at hl 0 rfl) ?_
  refine W.objInit hx hb hown (htw _ tw_26) (htw _ tw_19) (htw _ tw_20) rfl (by rw [hml]; exact hl.1) rfl d_Disk_init_1 (Nat.le_of_ble_eq_true rfl) (Nat.le_of_ble_eq_true rfl) ?_
  refine W.eq (g2 := F0 m 4 ls []) rfl ?_
  refine lv_aload_n hx hb d_Disk_init_4 rfl (lv_at hl 0 rfl) ?_
  refine lv_sipush (v := nI 384) hx hb d_Disk_init_5 (by decide) ?_
  refine va_newa (atype := .byte) (N' := 384) (a0 := (384, .inl (eB zB))) hx hb (htw _ tw_66) (ty := .byte) rfl hK hP hD hS hA cell_zB (by decide) (by decide) (Nat.le_of_ble_eq_true rfl) (Nat.le_of_ble_eq_true rfl) (Nat.le_of_ble_eq_true rfl) d_Disk_init_8 (fun a1 c1 H hK hP hD hS => ?_)
  have hK : va_K D classes [(c1, .byte)] s := hK
  have hP : va_P D classes [(h, .inr (1, [.null, .null, .null, .null, .null, .int (nI 0), .int (bI false), .int (bI false), .int (nI 0), .int (nI 0)])), (a1, .inl (c1, 384, .inl (eB zB)))] H := hP
  have hD : va_D A [(h, .inr (1, [.null, .null, .null, .null, .null, .int (nI 0), .int (bI false), .int (bI false), .int (nI 0), .int (nI 0)])), (a1, .inl (c1, 384, .inl (eB zB)))] := hD
  refine va_putF (D := D) (ci := 1) (v := .ref a1) (ty := .array .byte) (C := R_Disk) (T := F_Disk) (N := 10) hx hb htw i_Disk t_Disk t_Disk_ok n_Disk hown hK hP hD hS 0 rfl rfl 0 (by decide) (htw _ tw_27) (fun _ h9 => h9) rfl hnm rfl (by decide +kernel) rfl rfl (Nat.le_of_ble_eq_true rfl) d_Disk_init_10 (fun H locs hP hD hS => ?_)
  have hP : va_P D classes [(h, .inr (1, [.ref a1, .null, .null, .null, .null, .int (nI 0), .int (bI false), .int (bI false), .int (nI 0), .int (nI 0)])), (a1, .inl (c1, 384, .inl (eB zB)))] H := hP
  have hD : va_D A [(h, .inr (1, [.ref a1, .null, .null, .null, .null, .int (nI 0), .int (bI false), .int (bI false), .int (nI 0), .int (nI 0)])), (a1, .inl (c1, 384, .inl (eB zB)))] := hD
  refine lv_aload_n hx hb d_Disk_init_13 rfl (lv_at hl 0 rfl) ?_
  refine lv_sipush (v := nI 384) hx hb d_Disk_init_14 (by decide) ?_
  refine va_newa (atype := .byte) (N' := 384) (a0 := (384, .inl (eB zB))) hx hb (htw _ tw_66) (ty := .byte) rfl hK hP hD hS hA cell_zB (by decide) (by decide) (Nat.le_of_ble_eq_true rfl) (Nat.le_of_ble_eq_true rfl) (Nat.le_of_ble_eq_true rfl) d_Disk_init_17 (fun a2 c2 H hK hP hD hS => ?_)
  have hK : va_K D classes [(c1, .byte), (c2, .byte)] s := hK
  have hP : va_P D classes [(h, .inr (1, [.ref a1, .null, .null, .null, .null, .int (nI 0), .int (bI false), .int (bI false), .int (nI 0), .int (nI 0)])), (a1, .inl (c1, 384, .inl (eB zB))), (a2, .inl (c2, 384, .inl (eB zB)))] H := hP
  have hD : va_D A [(h, .inr (1, [.ref a1, .null, .null, .null, .null, .int (nI 0), .int (bI false), .int (bI false), .int (nI 0), .int (nI 0)])), (a1, .inl (c1, 384, .inl (eB zB))), (a2, .inl (c2, 384, .inl (eB zB)))] := hD
  refine va_putF (D := D) (ci := 1) (v := .ref a2) (ty := .array .byte) (C := R_Disk) (T := F_Disk) (N := 10) hx hb htw i_Disk t_Disk t_Disk_ok n_Disk hown hK hP hD hS 0 rfl rfl 1 (by decide) (htw _ tw_29) (fun _ h9 => h9) rfl hnm rfl (by decide +kernel) rfl rfl (Nat.le_of_ble_eq_true rfl) d_Disk_init_19 (fun H locs hP hD hS => ?_)
  have hP : va_P D classes [(h, .inr (1, [.ref a1, .ref a2, .null, .null, .null, .int (nI 0), .int (bI false), .int (bI false), .int (nI 0), .int (nI 0)])), (a1, .inl (c1, 384, .inl (eB zB))), (a2, .inl (c2, 384, .inl (eB zB)))] H := hP
  have hD : va_D A [(h, .inr (1, [.ref a1, .ref a2, .null, .null, .null, .int (nI 0), .int (bI false), .int (bI false), .int (nI 0), .int (nI 0)])), (a1, .inl (c1, 384, .inl (eB zB))), (a2, .inl (c2, 384, .inl (eB zB)))] := hD
  refine lv_aload_n hx hb d_Disk_init_22 rfl (lv_at hl 0 rfl) ?_
  refine lv_sipush (v := nI 384) hx hb d_Disk_init_23 (by decide) ?_
  refine va_newa (atype := .byte) (N' := 384) (a0 := (384, .inl (eB zB))) hx hb (htw _ tw_66) (ty := .byte) rfl hK hP hD hS hA cell_zB (by decide) (by decide) (Nat.le_of_ble_eq_true rfl) (Nat.le_of_ble_eq_true rfl) (Nat.le_of_ble_eq_true rfl) d_Disk_init_26 (fun a3 c3 H hK hP hD hS => ?_)
  have hK : va_K D classes [(c1, .byte), (c2, .byte), (c3, .byte)] s := hK
  have hP : va_P D classes [(h, .inr (1, [.ref a1, .ref a2, .null, .null, .null, .int (nI 0), .int (bI false), .int (bI false), .int (nI 0), .int (nI 0)])), (a1, .inl (c1, 384, .inl (eB zB))), (a2, .inl (c2, 384, .inl (eB zB))), (a3, .inl (c3, 384, .inl (eB zB)))] H := hP
  have hD : va_D A [(h, .inr (1, [.ref a1, .ref a2, .null, .null, .null, .int (nI 0), .int (bI false), .int (bI false), .int (nI 0), .int (nI 0)])), (a1, .inl (c1, 384, .inl (eB zB))), (a2, .inl (c2, 384, .inl (eB zB))), (a3, .inl (c3, 384, .inl (eB zB)))] := hD
  refine va_putF (D := D) (ci := 1) (v := .ref a3) (ty := .array .byte) (C := R_Disk) (T := F_Disk) (N := 10) hx hb htw i_Disk t_Disk t_Disk_ok n_Disk hown hK hP hD hS 0 rfl rfl 2 (by decide) (htw _ tw_31) (fun _ h9 => h9) rfl hnm rfl (by decide +kernel) rfl rfl (Nat.le_of_ble_eq_true rfl) d_Disk_init_28 (fun H locs hP hD hS => ?_)
  have hP : va_P D classes [(h, .inr (1, [.ref a1, .ref a2, .ref a3, .null, .null, .int (nI 0), .int (bI false), .int (bI false), .int (nI 0), .int (nI 0)])), (a1, .inl (c1, 384, .inl (eB zB))), (a2, .inl (c2, 384, .inl (eB zB))), (a3, .inl (c3, 384, .inl (eB zB)))] H := hP
  have hD : va_D A [(h, .inr (1, [.ref a1, .ref a2, .ref a3, .null, .null, .int (nI 0), .int (bI false), .int (bI false), .int (nI 0), .int (nI 0)])), (a1, .inl (c1, 384, .inl (eB zB))), (a2, .inl (c2, 384, .inl (eB zB))), (a3, .inl (c3, 384, .inl (eB zB)))] := hD
  refine lv_aload_n hx hb d_Disk_init_31 rfl (lv_at hl 0 rfl) ?_
  refine lv_bipush (v := nI 24) hx hb d_Disk_init_32 (by decide) ?_
  refine va_newa (atype := .boolean) (N' := 24) (a0 := (24, .inl (eZ zZ))) hx hb (htw _ tw_67) (ty := .boolean) rfl hK hP hD hS hA cell_zZ (by decide) (by decide) (Nat.le_of_ble_eq_true rfl) (Nat.le_of_ble_eq_true rfl) (Nat.le_of_ble_eq_true rfl) d_Disk_init_34 (fun a4 c4 H hK hP hD hS => ?_)
  have hK : va_K D classes [(c1, .byte), (c2, .byte), (c3, .byte), (c4, .boolean)] s := hK
  have hP : va_P D classes [(h, .inr (1, [.ref a1, .ref a2, .ref a3, .null, .null, .int (nI 0), .int (bI false), .int (bI false), .int (nI 0), .int (nI 0)])), (a1, .inl (c1, 384, .inl (eB zB))), (a2, .inl (c2, 384, .inl (eB zB))), (a3, .inl (c3, 384, .inl (eB zB))), (a4, .inl (c4, 24, .inl (eZ zZ)))] H := hP
  have hD : va_D A [(h, .inr (1, [.ref a1, .ref a2, .ref a3, .null, .null, .int (nI 0), .int (bI false), .int (bI false), .int (nI 0), .int (nI 0)])), (a1, .inl (c1, 384, .inl (eB zB))), (a2, .inl (c2, 384, .inl (eB zB))), (a3, .inl (c3, 384, .inl (eB zB))), (a4, .inl (c4, 24, .inl (eZ zZ)))] := hD
  refine va_putF (D := D) (ci := 1) (v := .ref a4) (ty := .array .boolean) (C := R_Disk) (T := F_Disk) (N := 10) hx hb htw i_Disk t_Disk t_Disk_ok n_Disk hown hK hP hD hS 0 rfl rfl 3 (by decide) (htw _ tw_32) (fun _ h9 => h9) rfl hnm rfl (by decide +kernel) rfl rfl (Nat.le_of_ble_eq_true rfl) d_Disk_init_36 (fun H locs hP hD hS => ?_)
  have hP : va_P D classes [(h, .inr (1, [.ref a1, .ref a2, .ref a3, .ref a4, .null, .int (nI 0), .int (bI false), .int (bI false), .int (nI 0), .int (nI 0)])), (a1, .inl (c1, 384, .inl (eB zB))), (a2, .inl (c2, 384, .inl (eB zB))), (a3, .inl (c3, 384, .inl (eB zB))), (a4, .inl (c4, 24, .inl (eZ zZ)))] H := hP
  have hD : va_D A [(h, .inr (1, [.ref a1, .ref a2, .ref a3, .ref a4, .null, .int (nI 0), .int (bI false), .int (bI false), .int (nI 0), .int (nI 0)])), (a1, .inl (c1, 384, .inl (eB zB))), (a2, .inl (c2, 384, .inl (eB zB))), (a3, .inl (c3, 384, .inl (eB zB))), (a4, .inl (c4, 24, .inl (eZ zZ)))] := hD
  refine lv_aload_n hx hb d_Disk_init_39 rfl (lv_at hl 0 rfl) ?_
  refine lv_bipush (v := nI 24) hx hb d_Disk_init_40 (by decide) ?_
  refine va_newa (atype := .int) (N' := 24) (a0 := (24, .inl (eN zN))) hx hb (htw _ tw_68) (ty := .int) rfl hK hP hD hS hA cell_zN (by decide) (by decide) (Nat.le_of_ble_eq_true rfl) (Nat.le_of_ble_eq_true rfl) (Nat.le_of_ble_eq_true rfl) d_Disk_init_42 (fun a5 c5 H hK hP hD hS => ?_)
  have hK : va_K D classes [(c1, .byte), (c2, .byte), (c3, .byte), (c4, .boolean), (c5, .int)] s := hK
  have hP : va_P D classes [(h, .inr (1, [.ref a1, .ref a2, .ref a3, .ref a4, .null, .int (nI 0), .int (bI false), .int (bI false), .int (nI 0), .int (nI 0)])), (a1, .inl (c1, 384, .inl (eB zB))), (a2, .inl (c2, 384, .inl (eB zB))), (a3, .inl (c3, 384, .inl (eB zB))), (a4, .inl (c4, 24, .inl (eZ zZ))), (a5, .inl (c5, 24, .inl (eN zN)))] H := hP
  have hD : va_D A [(h, .inr (1, [.ref a1, .ref a2, .ref a3, .ref a4, .null, .int (nI 0), .int (bI false), .int (bI false), .int (nI 0), .int (nI 0)])), (a1, .inl (c1, 384, .inl (eB zB))), (a2, .inl (c2, 384, .inl (eB zB))), (a3, .inl (c3, 384, .inl (eB zB))), (a4, .inl (c4, 24, .inl (eZ zZ))), (a5, .inl (c5, 24, .inl (eN zN)))] := hD
  refine va_putF (D := D) (ci := 1) (v := .ref a5) (ty := .array .int) (C := R_Disk) (T := F_Disk) (N := 10) hx hb htw i_Disk t_Disk t_Disk_ok n_Disk hown hK hP hD hS 0 rfl rfl 4 (by decide) (htw _ tw_34) (fun _ h9 => h9) rfl hnm rfl (by decide +kernel) rfl rfl (Nat.le_of_ble_eq_true rfl) d_Disk_init_44 (fun H locs hP hD hS => ?_)
  have hP : va_P D classes [(h, .inr (1, [.ref a1, .ref a2, .ref a3, .ref a4, .ref a5, .int (nI 0), .int (bI false), .int (bI false), .int (nI 0), .int (nI 0)])), (a1, .inl (c1, 384, .inl (eB zB))), (a2, .inl (c2, 384, .inl (eB zB))), (a3, .inl (c3, 384, .inl (eB zB))), (a4, .inl (c4, 24, .inl (eZ zZ))), (a5, .inl (c5, 24, .inl (eN zN)))] H := hP
  have hD : va_D A [(h, .inr (1, [.ref a1, .ref a2, .ref a3, .ref a4, .ref a5, .int (nI 0), .int (bI false), .int (bI false), .int (nI 0), .int (nI 0)])), (a1, .inl (c1, 384, .inl (eB zB))), (a2, .inl (c2, 384, .inl (eB zB))), (a3, .inl (c3, 384, .inl (eB zB))), (a4, .inl (c4, 24, .inl (eZ zZ))), (a5, .inl (c5, 24, .inl (eN zN)))] := hD
  refine lv_aload_n hx hb d_Disk_init_47 rfl (lv_at hl 0 rfl) ?_
  refine lv_iconst (v := bI true) hx hb d_Disk_init_48 (by decide) ?_
  refine va_put (D := D) (ci := 1) (v := .int (bI true)) (ty := .boolean) (C := R_Disk) (T := F_Disk) (N := 10) hx hb htw i_Disk t_Disk t_Disk_ok n_Disk hown hK hP hD hS 0 rfl rfl 7 (by decide) (htw _ tw_39) (fun _ h9 => h9) rfl (by decide +kernel) (bI_nar _) (bI_fit _) (Nat.le_of_ble_eq_true rfl) d_Disk_init_49 (fun H locs hP hD hS => ?_)
  obtain rfl := ty_B hK 0 1 rfl rfl
  obtain rfl := ty_B hK 0 2 rfl rfl
  have hK := hK.sub (tys' := [(c1, .byte), (c4, .boolean), (c5, .int)]) [0, 3, 4] rfl
  refine W.widen (k := 5) (n := 1200) (Nat.le_of_ble_eq_true rfl) (Nat.le_of_ble_eq_true rfl) ?_
  exact W.vret hx hb hr (fun t ht hW => ⟨⟨(fun j => match j with | 0 => c1 | 1 => c4 | _ => c5, fun j => match j with | 1 => h | 2 => a1 | 3 => a2 | 4 => a3 | 5 => a4 | _ => a5), rfl, rfl, by rw [ht]; exact hP, va_K.moved hW.alike hK, hD⟩, hS.F ht⟩) hS.2.2 d_Disk_init_52
set_option maxHeartbeats 4000000 in
set_option maxRecDepth 100000 in
theorem c_Model_init (l : Launch) (D : va_G) (k : Nat → ClassId) (h : Nat) (sz : Nat) : Met l y_Model_init (k_Model_init :: TW) ({ frames := 1, cells := 5, slots := 1200, locals := 12 }) (va_Pc [.ref h] (PW D (tyK k) sz [(h, .inr (2, f0_Model))])) (va_Qv (fun u : Nat → Nat => u 7 = h) (fun u t => QW D (tyK k) (va_A [(h, .inr (2, f0_Model))] sz) (mW k u zB zB zB zZ zZ false false 0 (nI 0) 0) t) (va_A [(h, .inr (2, f0_Model))] sz)) 5 1200 (va_A [(h, .inr (2, f0_Model))] sz) := by
  refine open_MetN (Qc := fun A => va_Qv (fun u : Nat → Nat => u 7 = h) (fun u t => QW D (tyK k) A (mW k u zB zB zB zZ zZ false false 0 (nI 0) 0) t) A) (by decide) (Nat.le_of_ble_eq_true rfl) ?_ sz
  intro pg ev s m below meth c A hx hb hml hr hlocks htw hown hnm hA hS hP hK hD hN ls hl
  have hown : s.vm.findClass R_Model = some m.cls := hown
  have hl : lv_has ls 1 [(0, .ref h)] := hl
  refine lv_aload_n hx hb d_Model_init_0 rfl (lv_at hl 0 rfl) ?_
  refine W.objInit hx hb hown (htw _ tw_151) (htw _ tw_19) (htw _ tw_20) rfl (by rw [hml]; exact hl.1) rfl d_Model_init_1 (Nat.le_of_ble_eq_true rfl) (Nat.le_of_ble_eq_true rfl) ?_
  refine W.eq (g2 := F0 m 4 ls []) rfl ?_
  refine lv_aload_n hx hb d_Model_init_4 rfl (lv_at hl 0 rfl) ?_
  refine lv_sipush (v := nI 384) hx hb d_Model_init_5 (by decide) ?_
  refine va_newa (atype := .byte) (N' := 384) (a0 := (384, .inl (eB zB))) hx hb (htw _ tw_66) (ty := .byte) rfl hK hP hD hS hA cell_zB (by decide) (by decide) (Nat.le_of_ble_eq_true rfl) (Nat.le_of_ble_eq_true rfl) (Nat.le_of_ble_eq_true rfl) d_Model_init_8 (fun a1 c1 H hK hP hD hS => ?_)
  have hK : va_K D classes [(k 0, .byte), (k 1, .boolean), (k 2, .int), (c1, .byte)] s := hK
  have hP : va_P D classes [(h, .inr (2, [.null, .null, .null, .null, .null, .int (bI false), .int (bI false), .int (nI 0), .int (nI 0), .int (nI 0)])), (a1, .inl (c1, 384, .inl (eB zB)))] H := hP
  have hD : va_D A [(h, .inr (2, [.null, .null, .null, .null, .null, .int (bI false), .int (bI false), .int (nI 0), .int (nI 0), .int (nI 0)])), (a1, .inl (c1, 384, .inl (eB zB)))] := hD
  refine va_putF (D := D) (ci := 2) (v := .ref a1) (ty := .array .byte) (C := R_Model) (T := F_Model) (N := 10) hx hb htw i_Model t_Model t_Model_ok n_Model hown hK hP hD hS 0 rfl rfl 0 (by decide) (htw _ tw_152) (fun _ h9 => h9) rfl hnm rfl (by decide +kernel) rfl rfl (Nat.le_of_ble_eq_true rfl) d_Model_init_10 (fun H locs hP hD hS => ?_)
  have hP : va_P D classes [(h, .inr (2, [.ref a1, .null, .null, .null, .null, .int (bI false), .int (bI false), .int (nI 0), .int (nI 0), .int (nI 0)])), (a1, .inl (c1, 384, .inl (eB zB)))] H := hP
  have hD : va_D A [(h, .inr (2, [.ref a1, .null, .null, .null, .null, .int (bI false), .int (bI false), .int (nI 0), .int (nI 0), .int (nI 0)])), (a1, .inl (c1, 384, .inl (eB zB)))] := hD
  refine lv_aload_n hx hb d_Model_init_13 rfl (lv_at hl 0 rfl) ?_
  refine lv_sipush (v := nI 384) hx hb d_Model_init_14 (by decide) ?_
  refine va_newa (atype := .byte) (N' := 384) (a0 := (384, .inl (eB zB))) hx hb (htw _ tw_66) (ty := .byte) rfl hK hP hD hS hA cell_zB (by decide) (by decide) (Nat.le_of_ble_eq_true rfl) (Nat.le_of_ble_eq_true rfl) (Nat.le_of_ble_eq_true rfl) d_Model_init_17 (fun a2 c2 H hK hP hD hS => ?_)
  have hK : va_K D classes [(k 0, .byte), (k 1, .boolean), (k 2, .int), (c1, .byte), (c2, .byte)] s := hK
  have hP : va_P D classes [(h, .inr (2, [.ref a1, .null, .null, .null, .null, .int (bI false), .int (bI false), .int (nI 0), .int (nI 0), .int (nI 0)])), (a1, .inl (c1, 384, .inl (eB zB))), (a2, .inl (c2, 384, .inl (eB zB)))] H := hP
  have hD : va_D A [(h, .inr (2, [.ref a1, .null, .null, .null, .null, .int (bI false), .int (bI false), .int (nI 0), .int (nI 0), .int (nI 0)])), (a1, .inl (c1, 384, .inl (eB zB))), (a2, .inl (c2, 384, .inl (eB zB)))] := hD
  refine va_putF (D := D) (ci := 2) (v := .ref a2) (ty := .array .byte) (C := R_Model) (T := F_Model) (N := 10) hx hb htw i_Model t_Model t_Model_ok n_Model hown hK hP hD hS 0 rfl rfl 1 (by decide) (htw _ tw_153) (fun _ h9 => h9) rfl hnm rfl (by decide +kernel) rfl rfl (Nat.le_of_ble_eq_true rfl) d_Model_init_19 (fun H locs hP hD hS => ?_)
  have hP : va_P D classes [(h, .inr (2, [.ref a1, .ref a2, .null, .null, .null, .int (bI false), .int (bI false), .int (nI 0), .int (nI 0), .int (nI 0)])), (a1, .inl (c1, 384, .inl (eB zB))), (a2, .inl (c2, 384, .inl (eB zB)))] H := hP
  have hD : va_D A [(h, .inr (2, [.ref a1, .ref a2, .null, .null, .null, .int (bI false), .int (bI false), .int (nI 0), .int (nI 0), .int (nI 0)])), (a1, .inl (c1, 384, .inl (eB zB))), (a2, .inl (c2, 384, .inl (eB zB)))] := hD
  refine lv_aload_n hx hb d_Model_init_22 rfl (lv_at hl 0 rfl) ?_
  refine lv_sipush (v := nI 384) hx hb d_Model_init_23 (by decide) ?_
  refine va_newa (atype := .byte) (N' := 384) (a0 := (384, .inl (eB zB))) hx hb (htw _ tw_66) (ty := .byte) rfl hK hP hD hS hA cell_zB (by decide) (by decide) (Nat.le_of_ble_eq_true rfl) (Nat.le_of_ble_eq_true rfl) (Nat.le_of_ble_eq_true rfl) d_Model_init_26 (fun a3 c3 H hK hP hD hS => ?_)
  have hK : va_K D classes [(k 0, .byte), (k 1, .boolean), (k 2, .int), (c1, .byte), (c2, .byte), (c3, .byte)] s := hK
  have hP : va_P D classes [(h, .inr (2, [.ref a1, .ref a2, .null, .null, .null, .int (bI false), .int (bI false), .int (nI 0), .int (nI 0), .int (nI 0)])), (a1, .inl (c1, 384, .inl (eB zB))), (a2, .inl (c2, 384, .inl (eB zB))), (a3, .inl (c3, 384, .inl (eB zB)))] H := hP
  have hD : va_D A [(h, .inr (2, [.ref a1, .ref a2, .null, .null, .null, .int (bI false), .int (bI false), .int (nI 0), .int (nI 0), .int (nI 0)])), (a1, .inl (c1, 384, .inl (eB zB))), (a2, .inl (c2, 384, .inl (eB zB))), (a3, .inl (c3, 384, .inl (eB zB)))] := hD
  refine va_putF (D := D) (ci := 2) (v := .ref a3) (ty := .array .byte) (C := R_Model) (T := F_Model) (N := 10) hx hb htw i_Model t_Model t_Model_ok n_Model hown hK hP hD hS 0 rfl rfl 2 (by decide) (htw _ tw_154) (fun _ h9 => h9) rfl hnm rfl (by decide +kernel) rfl rfl (Nat.le_of_ble_eq_true rfl) d_Model_init_28 (fun H locs hP hD hS => ?_)
  have hP : va_P D classes [(h, .inr (2, [.ref a1, .ref a2, .ref a3, .null, .null, .int (bI false), .int (bI false), .int (nI 0), .int (nI 0), .int (nI 0)])), (a1, .inl (c1, 384, .inl (eB zB))), (a2, .inl (c2, 384, .inl (eB zB))), (a3, .inl (c3, 384, .inl (eB zB)))] H := hP
  have hD : va_D A [(h, .inr (2, [.ref a1, .ref a2, .ref a3, .null, .null, .int (bI false), .int (bI false), .int (nI 0), .int (nI 0), .int (nI 0)])), (a1, .inl (c1, 384, .inl (eB zB))), (a2, .inl (c2, 384, .inl (eB zB))), (a3, .inl (c3, 384, .inl (eB zB)))] := hD
  refine lv_aload_n hx hb d_Model_init_31 rfl (lv_at hl 0 rfl) ?_
  refine lv_bipush (v := nI 24) hx hb d_Model_init_32 (by decide) ?_
  refine va_newa (atype := .boolean) (N' := 24) (a0 := (24, .inl (eZ zZ))) hx hb (htw _ tw_67) (ty := .boolean) rfl hK hP hD hS hA cell_zZ (by decide) (by decide) (Nat.le_of_ble_eq_true rfl) (Nat.le_of_ble_eq_true rfl) (Nat.le_of_ble_eq_true rfl) d_Model_init_34 (fun a4 c4 H hK hP hD hS => ?_)
  have hK : va_K D classes [(k 0, .byte), (k 1, .boolean), (k 2, .int), (c1, .byte), (c2, .byte), (c3, .byte), (c4, .boolean)] s := hK
  have hP : va_P D classes [(h, .inr (2, [.ref a1, .ref a2, .ref a3, .null, .null, .int (bI false), .int (bI false), .int (nI 0), .int (nI 0), .int (nI 0)])), (a1, .inl (c1, 384, .inl (eB zB))), (a2, .inl (c2, 384, .inl (eB zB))), (a3, .inl (c3, 384, .inl (eB zB))), (a4, .inl (c4, 24, .inl (eZ zZ)))] H := hP
  have hD : va_D A [(h, .inr (2, [.ref a1, .ref a2, .ref a3, .null, .null, .int (bI false), .int (bI false), .int (nI 0), .int (nI 0), .int (nI 0)])), (a1, .inl (c1, 384, .inl (eB zB))), (a2, .inl (c2, 384, .inl (eB zB))), (a3, .inl (c3, 384, .inl (eB zB))), (a4, .inl (c4, 24, .inl (eZ zZ)))] := hD
  refine va_putF (D := D) (ci := 2) (v := .ref a4) (ty := .array .boolean) (C := R_Model) (T := F_Model) (N := 10) hx hb htw i_Model t_Model t_Model_ok n_Model hown hK hP hD hS 0 rfl rfl 3 (by decide) (htw _ tw_155) (fun _ h9 => h9) rfl hnm rfl (by decide +kernel) rfl rfl (Nat.le_of_ble_eq_true rfl) d_Model_init_36 (fun H locs hP hD hS => ?_)
  have hP : va_P D classes [(h, .inr (2, [.ref a1, .ref a2, .ref a3, .ref a4, .null, .int (bI false), .int (bI false), .int (nI 0), .int (nI 0), .int (nI 0)])), (a1, .inl (c1, 384, .inl (eB zB))), (a2, .inl (c2, 384, .inl (eB zB))), (a3, .inl (c3, 384, .inl (eB zB))), (a4, .inl (c4, 24, .inl (eZ zZ)))] H := hP
  have hD : va_D A [(h, .inr (2, [.ref a1, .ref a2, .ref a3, .ref a4, .null, .int (bI false), .int (bI false), .int (nI 0), .int (nI 0), .int (nI 0)])), (a1, .inl (c1, 384, .inl (eB zB))), (a2, .inl (c2, 384, .inl (eB zB))), (a3, .inl (c3, 384, .inl (eB zB))), (a4, .inl (c4, 24, .inl (eZ zZ)))] := hD
  refine lv_aload_n hx hb d_Model_init_39 rfl (lv_at hl 0 rfl) ?_
  refine lv_bipush (v := nI 24) hx hb d_Model_init_40 (by decide) ?_
  refine va_newa (atype := .boolean) (N' := 24) (a0 := (24, .inl (eZ zZ))) hx hb (htw _ tw_67) (ty := .boolean) rfl hK hP hD hS hA cell_zZ (by decide) (by decide) (Nat.le_of_ble_eq_true rfl) (Nat.le_of_ble_eq_true rfl) (Nat.le_of_ble_eq_true rfl) d_Model_init_42 (fun a5 c5 H hK hP hD hS => ?_)
  have hK : va_K D classes [(k 0, .byte), (k 1, .boolean), (k 2, .int), (c1, .byte), (c2, .byte), (c3, .byte), (c4, .boolean), (c5, .boolean)] s := hK
  have hP : va_P D classes [(h, .inr (2, [.ref a1, .ref a2, .ref a3, .ref a4, .null, .int (bI false), .int (bI false), .int (nI 0), .int (nI 0), .int (nI 0)])), (a1, .inl (c1, 384, .inl (eB zB))), (a2, .inl (c2, 384, .inl (eB zB))), (a3, .inl (c3, 384, .inl (eB zB))), (a4, .inl (c4, 24, .inl (eZ zZ))), (a5, .inl (c5, 24, .inl (eZ zZ)))] H := hP
  have hD : va_D A [(h, .inr (2, [.ref a1, .ref a2, .ref a3, .ref a4, .null, .int (bI false), .int (bI false), .int (nI 0), .int (nI 0), .int (nI 0)])), (a1, .inl (c1, 384, .inl (eB zB))), (a2, .inl (c2, 384, .inl (eB zB))), (a3, .inl (c3, 384, .inl (eB zB))), (a4, .inl (c4, 24, .inl (eZ zZ))), (a5, .inl (c5, 24, .inl (eZ zZ)))] := hD
  refine va_putF (D := D) (ci := 2) (v := .ref a5) (ty := .array .boolean) (C := R_Model) (T := F_Model) (N := 10) hx hb htw i_Model t_Model t_Model_ok n_Model hown hK hP hD hS 0 rfl rfl 4 (by decide) (htw _ tw_156) (fun _ h9 => h9) rfl hnm rfl (by decide +kernel) rfl rfl (Nat.le_of_ble_eq_true rfl) d_Model_init_44 (fun H locs hP hD hS => ?_)
  have hP : va_P D classes [(h, .inr (2, [.ref a1, .ref a2, .ref a3, .ref a4, .ref a5, .int (bI false), .int (bI false), .int (nI 0), .int (nI 0), .int (nI 0)])), (a1, .inl (c1, 384, .inl (eB zB))), (a2, .inl (c2, 384, .inl (eB zB))), (a3, .inl (c3, 384, .inl (eB zB))), (a4, .inl (c4, 24, .inl (eZ zZ))), (a5, .inl (c5, 24, .inl (eZ zZ)))] H := hP
  have hD : va_D A [(h, .inr (2, [.ref a1, .ref a2, .ref a3, .ref a4, .ref a5, .int (bI false), .int (bI false), .int (nI 0), .int (nI 0), .int (nI 0)])), (a1, .inl (c1, 384, .inl (eB zB))), (a2, .inl (c2, 384, .inl (eB zB))), (a3, .inl (c3, 384, .inl (eB zB))), (a4, .inl (c4, 24, .inl (eZ zZ))), (a5, .inl (c5, 24, .inl (eZ zZ)))] := hD
  obtain rfl := ty_B hK 3 0 rfl rfl
  obtain rfl := ty_B hK 4 0 rfl rfl
  obtain rfl := ty_B hK 5 0 rfl rfl
  obtain rfl := ty_Z hK 6 1 rfl rfl
  obtain rfl := ty_Z hK 7 1 rfl rfl
  have hK := hK.sub (tys' := tyK k) [0, 1, 2] rfl
  refine W.widen (k := 5) (n := 1200) (Nat.le_of_ble_eq_true rfl) (Nat.le_of_ble_eq_true rfl) ?_
  exact W.vret hx hb hr (fun t ht hW => ⟨⟨(fun j => match j with | 7 => h | 8 => a1 | 9 => a2 | 10 => a3 | 11 => a4 | _ => a5), rfl, rfl, by rw [ht]; exact hP, va_K.moved hW.alike hK, hD⟩, hS.F ht⟩) hS.2.2 d_Model_init_47
set_option maxHeartbeats 4000000 in
set_option maxRecDepth 100000 in
theorem c_Log_init (l : Launch) (D : va_G) (h : Nat) (sz : Nat) : Met l y_Log_init (k_Log_init :: TW) ({ frames := 2, cells := 6, slots := 1210, locals := 32 }) (va_Pc [.ref h] (PW D [] sz [(h, .inr (0, [.null]))])) (va_Qv (fun u : (Nat → ClassId) × (Nat → Nat) => u.2 0 = h) (fun u t => QW D (tyK u.1) (va_A [(h, .inr (0, [.null]))] sz) (cW u.1 u.2 zB zB zB zZ zN 0 false true 0 0) t) (va_A [(h, .inr (0, [.null]))] sz)) 6 1210 (va_A [(h, .inr (0, [.null]))] sz) := by
  refine open_MetN (Qc := fun A => va_Qv (fun u : (Nat → ClassId) × (Nat → Nat) => u.2 0 = h) (fun u t => QW D (tyK u.1) A (cW u.1 u.2 zB zB zB zZ zN 0 false true 0 0) t) A) (by decide) (Nat.le_of_ble_eq_true rfl) ?_ sz
  intro pg ev s m below meth c A hx hb hml hr hlocks htw hown hnm hA hS hP hK hD hN ls hl
  have hown : s.vm.findClass R_Log = some m.cls := hown
  have hl : lv_has ls 1 [(0, .ref h)] := hl
  refine lv_aload_n hx hb d_Log_init_0 rfl (lv_at hl 0 rfl) ?_
  refine W.objInit hx hb hown (htw _ tw_18) (htw _ tw_19) (htw _ tw_20) rfl (by rw [hml]; exact hl.1) rfl d_Log_init_1 (Nat.le_of_ble_eq_true rfl) (Nat.le_of_ble_eq_true rfl) ?_
  refine W.eq (g2 := F0 m 4 ls []) rfl ?_
  refine lv_aload_n hx hb d_Log_init_4 rfl (lv_at hl 0 rfl) ?_
  refine va_new (ci := 1) (fs := f0_Disk) (C := R_Disk) (T := F_Disk) (N := 10) hx hb htw i_Disk t_Disk t_Disk_ok hown (htw _ tw_21) (htw _ tw_22) (htw _ tw_10) hK hP hD hS hA rfl (fun j hj => by rcases (show j = 0 ∨ j = 1 ∨ j = 2 ∨ j = 3 ∨ j = 4 ∨ j = 5 ∨ j = 6 ∨ j = 7 ∨ j = 8 ∨ j = 9 by omega) with rfl | rfl | rfl | rfl | rfl | rfl | rfl | rfl | rfl | rfl <;> rfl) (Nat.le_of_ble_eq_true rfl) (Nat.le_of_ble_eq_true rfl) d_Log_init_5 (fun a H hP hD hS => ?_)
  have hP : va_P D classes [(h, .inr (0, [.null])), (a, .inr (1, f0_Disk))] H := hP
  have hD : va_D A [(h, .inr (0, [.null])), (a, .inr (1, f0_Disk))] := hD
  refine W.widen (k := 1) (n := 10) (Nat.le_of_ble_eq_true rfl) (Nat.le_of_ble_eq_true rfl) ?_
  refine lv_dup hx hb d_Log_init_8 rfl ?_
  have hFc := va_free (wc := [(a, .inr (1, f0_Disk))]) hD hS hA [1] rfl
  refine va_callv (va_runIN (As := []) (rest := [.ref a, .ref h]) ⟨hx, hb, hml, hown, htw⟩ (c_Disk_init l D a H.size) ⟨va_cnB 0 htw (gTW (List.forall_mem_cons.mpr ⟨tw_25, fun _ h => h⟩)) rfl rfl rfl (NW.w9 (args := #[]) hN) (htw _ tw_10) (by decide +kernel) ⟨Nat.le_of_ble_eq_true rfl, Nat.le_of_ble_eq_true rfl⟩, rfl, htw _ tw_24⟩ ⟨PW_blind, fun U hU hW => ⟨rfl, PW_here hK hN hP hD [1] rfl rfl rfl hU hW⟩⟩ rfl rfl hl.1 rfl (lv_room (Nat.le_of_ble_eq_true rfl)) d_Log_init_9 ⟨Nat.le_of_ble_eq_true rfl, Nat.le_of_ble_eq_true rfl⟩) hS (fun q _ h => hFc q h) hFc (fun u t H1 locs ht hvm hw hB hz1 hk1 hS => ?_)
  obtain ⟨k, q⟩ := u
  obtain ⟨hP1, hK1, hD1⟩ := hB
  rw [ht] at hP1
  have hK : va_K D classes (tyK k) s := va_K.moved hvm.symm hK1
  have hw : q 1 = a := hw
  subst hw
  obtain ⟨hP, hD⟩ := va_join (wr := [(h, .inr (0, [.null]))]) (w1 := dW k q zB zB zB zZ zN 0 false true 0 0) hP hD [1] [0] rfl rfl (by decide) (by decide) hk1 hFc hP1 hD1
  generalize H1 = H at hP hS ⊢
  have hP : va_P D classes ((h, .inr (0, [.null])) :: dW k q zB zB zB zZ zN 0 false true 0 0) H := hP
  have hD : va_D A ((h, .inr (0, [.null])) :: dW k q zB zB zB zZ zN 0 false true 0 0) := hD
  refine va_putF (D := D) (ci := 0) (v := .ref (q 1)) (ty := .object "CommitLog$Disk") (C := R_Log) (T := F_Log) (N := 1) hx hb htw i_Log t_Log t_Log_ok n_Log hown hK hP hD hS 0 rfl rfl 0 (by decide) (htw _ tw_69) (fun _ h9 => h9) rfl hnm rfl (by decide +kernel) rfl rfl (Nat.le_of_ble_eq_true rfl) d_Log_init_12 (fun H locs hP hD hS => ?_)
  refine W.widen (k := 6) (n := 1210) (Nat.le_of_ble_eq_true rfl) (Nat.le_of_ble_eq_true rfl) ?_
  exact W.vret hx hb hr (fun t ht hW => ⟨⟨(k, fun j => match j with | 0 => h | j => q j), rfl, rfl, by rw [ht]; exact hP, va_K.moved hW.alike hK, hD⟩, hS.F ht⟩) hS.2.2 d_Log_init_15
end
section
/-! THE CLAIM OUT OF ONE WALK OF THE LAW'S BODY. Your part is whole_start (and what it stands on); all else here is the same for every law, but numbers. -/
def R_law : String := "CommitLogLaw"
def lw_P (b : Addr) (xs : List Int32) (args : Array Value) (s : State) : Prop := args = #[.ref b] ∧ s.IntsAt b xs ∧ xs.length ≤ 2048 ∧ (Jvm.Cond.and given_1 narrow_1).before args s = true
def lw_Q (_ : Array Value) (s : State) (o : Outcome) (t : State) : Prop := o = .returned (some (.int 1)) ∧ Framed s o t [] 13 2421
def lw_Z (below : List Frame) (a : Array Value) (s : State) : State → Prop := fun t => ∃ o, t.status = .running ∧ Ended t below o ∧ lw_Q a s o t
/-- the law's own end, with 1 on the stack, nothing written that was there before, its room as the claim has it -/
theorem lw_ret {p : Program} {l : Launch} {e : Env} {s : State} {m : MethodId} {below : List Frame} {meth : Method} {c : Code} {b : Nat} (hx : p.tables.exec = Jvm.exec) (hb : c.code = code) (hr : meth.sig.returnType = ret) (hlocks : meth.locks = false) {pc : Nat} {H : Heap} {ls : Array Slot} (hdg : decode code pc = .ok (.ireturn, 1)) : W p l e room_1 s m #[Value.ref b] below meth c H [] 13 2421 (lw_Z below #[Value.ref b] s) (F0 m pc ls [.int 1]) := by
  intro T hT X
  obtain ⟨fs, hret, hrun, hended, hW, hframe⟩ := X.leave (v := some (.int 1)) (hlocks := hlocks) (fun h => by rw [hr] at h; cases h)
  have hmeth' : T.vm.method? m = some meth := X.method'
  refine ⟨T.setFrames fs, ?_, .returned (some (.int 1)), hrun, hended, rfl, ⟨_, rfl⟩, hW, hframe⟩
  jvm_step X.here [X.here.top, hx, hb, hdg, hmeth', hr, ret, narrow_b1]
  (try refine ⟨rfl, ?_⟩); (try refine ⟨rfl, ?_⟩)
  first | (intro acts; rw [hret _ acts rfl rfl rfl]) | rw [hret _ _ rfl rfl rfl]
  exact Steps.refl _
/-- what holds at the law's entry: the machine, the code, the tables' words (any of lw_tbl by 'hts w (by decide +kernel)'), the script of L ints xs at the cell b, what the Statement gives of the start (any of its parts by flat_of_before) -/
def lw_At (p : Program) (s : State) (m : MethodId) (meth : Method) (c : Code) (b L : Nat) (xs : Nat → Int32) : Prop :=
  p.tables.exec = Jvm.exec ∧ c.code = code ∧ meth.sig.returnType = ret ∧ c.maxLocals = 4 ∧ s.vm.findClass R_law = some m.cls ∧ (∀ w ∈ lw_tbl, w.before #[Value.ref b] s = true) ∧ va_X b L xs s s.heap ∧ b < s.heap.size ∧ meth.locks = false ∧ (Jvm.Cond.and given_1 narrow_1).before #[Value.ref b] s = true
theorem my_sld {p : Program} {l : Launch} {e : Env} {R : Room} {s : State} {m : MethodId} {args : Array Value} {below : List Frame} {meth : Method} {c : Code} {H : Heap} {locs : List Loc} {cells slots : Nat} {Q : State → Prop} {cc : ByteArray} {pc : Nat} {ls : Array Slot} {rest : List Value} {A : Nat → Prop} {H0 : Heap} (hx : p.tables.exec = Jvm.exec) (hb : c.code = cc) {b L : Nat} {xs : Nat → Int32} (hX : va_X b L xs s H0) (hbl : b < H0.size) (hbA : ¬ A b) (hS : va_S A H0 H locs) {i : Nat} (hin : i < L) (hL : L < 2 ^ 31) (hdg : decode cc pc = .ok (.iaload, 1))
    (kk : W p l e R s m args below meth c H locs cells slots Q (F0 m (pc + 1) ls (.int (xs i) :: rest))) : W p l e R s m args below meth c H locs cells slots Q (F0 m pc ls (.int (nI i) :: .ref b :: rest)) := by
  refine va_sld hx hb hX hbl hbA hS (vp_in_nI hin hL) hdg ?_
  rw [nI_clamp (by omega)]
  exact kk
/-- a good state of both: the two worlds, and the invariant between them -/
def GS (D : va_G) (k : Nat → ClassId) (q : Nat → Nat) (A : Nat → Prop) (H : Heap) : Prop :=
  ∃ (wk hm lg : Nat → Int8) (dt : Nat → Bool) (ld : Nat → Nat) (ct : Nat) (mk on : Bool) (un sh : Nat) (lg2 : Nat → Int8) (dt2 lo : Nat → Bool) (lf : Int32),
    va_P D classes (cW k q wk hm lg dt ld ct mk on un sh ++ mW k q wk hm lg2 dt2 lo (!on) mk ct lf sh) H ∧ va_D A (cW k q wk hm lg dt ld ct mk on un sh ++ mW k q wk hm lg2 dt2 lo (!on) mk ct lf sh) ∧ IV wk hm lg dt ld ct mk on un sh lg2 dt2 lo lf
theorem stop_gt {L i : Nat} (hL : L ≤ 2048) (hi : i ≤ 4096) (h : ¬ nI L - nI 4 < nI i) : i + 4 ≤ L := by
  rw [Int32.lt_iff_toInt_lt, pk_sub_toInt (by omega) (by decide), nI_toInt (by omega)] at h
  omega
end
section
set_option maxHeartbeats 4000000 in
set_option maxRecDepth 100000 in
theorem op_84 {p : Program} {l : Launch} {e : Env} {s : State} {m : MethodId} {below : List Frame} {meth : Method} {c : Code} {Q : State → Prop} {b L : Nat} {xs : Nat → Int32} {D : va_G} {k : Nat → ClassId} {q : Nat → Nat} {A : Nat → Prop} {i : Nat} {ls : Array Slot} {H : Heap} {locs : List Loc} (hL : L ≤ 2048) (C0 : lw_At p s m meth c b L xs) (hA : ∀ q, s.heap.size ≤ q → A q) (hbA : ¬ A b) (hi : i + 4 ≤ L) (hK : va_K D classes (tyK k) s) (hG : GS D k q A H) (hS : va_S A s.heap H locs) (hl : lv_has ls 4 [(0, .ref b), (1, .ref (q 0)), (2, .ref (q 7)), (3, .int (nI i))])
    (kk : ∀ (H : Heap) (locs : List Loc), GS D k q A H → va_S A s.heap H locs → W p l e room_1 s m #[Value.ref b] below meth c H locs 13 2421 Q (F0 m 321 ls [])) : W p l e room_1 s m #[Value.ref b] below meth c H locs 13 2421 Q (F0 m 84 ls []) := by
  obtain ⟨hx, hb, hr, hml, hown, hts, hX, hbl, hlocks, hgv⟩ := C0
  have htw := htw_of hts
  have hN := NW.of hts
  obtain ⟨wk, hm, lg, dt, ld, ct, mk, on, un, sh, lg2, dt2, lo, lf, hP, hD, hI⟩ := hG
  cases on
  · have hP : va_P D classes (cW k q wk hm lg dt ld ct mk false un sh ++ mW k q wk hm lg2 dt2 lo true mk ct lf sh) H := hP
    have hD : va_D A (cW k q wk hm lg dt ld ct mk false un sh ++ mW k q wk hm lg2 dt2 lo true mk ct lf sh) := hD
    refine lv_aload_n hx hb d_law_84 rfl (lv_at hl 1 rfl) ?_
    refine lv_aload_n hx hb d_law_85 rfl (lv_at hl 0 rfl) ?_
    refine lv_iload_n hx hb d_law_86 rfl (lv_at hl 3 rfl) ?_
    refine lv_iconst (v := (nI 1)) hx hb d_law_87 (by decide) ?_
    refine my_iadd hx hb (x := i) (y := 1) d_law_88 ?_
    refine my_sld hx hb hX hbl hbA hS (i := i + 1) (by omega) (by omega) d_law_89 ?_
    refine lv_aload_n hx hb d_law_90 rfl (lv_at hl 0 rfl) ?_
    refine lv_iload_n hx hb d_law_91 rfl (lv_at hl 3 rfl) ?_
    refine lv_iconst (v := (nI 2)) hx hb d_law_92 (by decide) ?_
    refine my_iadd hx hb (x := i) (y := 2) d_law_93 ?_
    refine my_sld hx hb hX hbl hbA hS (i := i + 2) (by omega) (by omega) d_law_94 ?_
    refine lv_aload_n hx hb d_law_95 rfl (lv_at hl 0 rfl) ?_
    refine lv_iload_n hx hb d_law_96 rfl (lv_at hl 3 rfl) ?_
    refine lv_iconst (v := (nI 3)) hx hb d_law_97 (by decide) ?_
    refine my_iadd hx hb (x := i) (y := 3) d_law_98 ?_
    refine my_sld hx hb hX hbl hbA hS (i := i + 3) (by omega) (by omega) d_law_99 ?_
    refine call_Vi (n := 3) (As := [.int (xs (i + 1)), .int (xs (i + 2)), .int (xs (i + 3))]) (ws' := cW k q wk hm lg dt ld ct mk false un sh ++ mW k q wk hm lg2 dt2 lo true mk ct lf sh) ⟨hx, hb, hml, hown, htw⟩ (c_Log_write_off l D k q wk hm lg dt ld ct mk un sh (xs (i + 1)) (xs (i + 2)) (xs (i + 3))) (in_V tw_73 tw_74 tw_75 tw_9 tw_76) (by decide +kernel) ⟨rfl, rfl, Nat.le_of_ble_eq_true rfl, Nat.le_of_ble_eq_true rfl⟩ hK hN hP hD hS hA [0, 1, 2, 3, 4, 5, 6] [7, 8, 9, 10, 11, 12] [6, 7, 8, 9, 10, 11, 12, 0, 1, 2, 3, 4, 5] rfl rfl ([oM q true mk ct lf sh, aB k (q 8) wk, aB k (q 9) hm, aB k (q 10) lg2, aZ k (q 11) dt2, aZ k (q 12) lo]) rfl rfl (by decide) rfl rfl 0 rfl 0 rfl hl.1 rfl rfl (Nat.le_of_ble_eq_true rfl) d_law_100 ⟨Nat.le_of_ble_eq_true rfl, Nat.le_of_ble_eq_true rfl⟩ (fun H locs hP hD hS => ?_)
    refine lv_aload_n hx hb d_law_103 rfl (lv_at hl 2 rfl) ?_
    refine lv_aload_n hx hb d_law_104 rfl (lv_at hl 0 rfl) ?_
    refine lv_iload_n hx hb d_law_105 rfl (lv_at hl 3 rfl) ?_
    refine lv_iconst (v := (nI 1)) hx hb d_law_106 (by decide) ?_
    refine my_iadd hx hb (x := i) (y := 1) d_law_107 ?_
    refine my_sld hx hb hX hbl hbA hS (i := i + 1) (by omega) (by omega) d_law_108 ?_
    refine lv_aload_n hx hb d_law_109 rfl (lv_at hl 0 rfl) ?_
    refine lv_iload_n hx hb d_law_110 rfl (lv_at hl 3 rfl) ?_
    refine lv_iconst (v := (nI 2)) hx hb d_law_111 (by decide) ?_
    refine my_iadd hx hb (x := i) (y := 2) d_law_112 ?_
    refine my_sld hx hb hX hbl hbA hS (i := i + 2) (by omega) (by omega) d_law_113 ?_
    refine lv_aload_n hx hb d_law_114 rfl (lv_at hl 0 rfl) ?_
    refine lv_iload_n hx hb d_law_115 rfl (lv_at hl 3 rfl) ?_
    refine lv_iconst (v := (nI 3)) hx hb d_law_116 (by decide) ?_
    refine my_iadd hx hb (x := i) (y := 3) d_law_117 ?_
    refine my_sld hx hb hX hbl hbA hS (i := i + 3) (by omega) (by omega) d_law_118 ?_
    refine call_Vi (n := 3) (As := [.int (xs (i + 1)), .int (xs (i + 2)), .int (xs (i + 3))]) (ws' := cW k q wk hm lg dt ld ct mk false un sh ++ mW k q wk hm lg2 dt2 lo true mk ct lf sh) ⟨hx, hb, hml, hown, htw⟩ (c_Model_write_off l D k q wk hm lg2 dt2 lo mk ct lf sh (xs (i + 1)) (xs (i + 2)) (xs (i + 3))) (in_V tw_183 tw_184 tw_185 tw_11 tw_186) (by decide +kernel) ⟨rfl, rfl, Nat.le_of_ble_eq_true rfl, Nat.le_of_ble_eq_true rfl⟩ hK hN hP hD hS hA [7, 8, 9, 10, 11, 12] [0, 1, 2, 3, 4, 5, 6] [0, 1, 2, 3, 4, 5, 6, 7, 8, 9, 10, 11, 12] rfl rfl ([oL q, oD q ct mk false un sh, aB k (q 2) wk, aB k (q 3) hm, aB k (q 4) lg, aZ k (q 5) dt, aN k (q 6) ld]) rfl rfl (by decide) rfl rfl 2 rfl 7 rfl hl.1 rfl rfl (Nat.le_of_ble_eq_true rfl) d_law_119 ⟨Nat.le_of_ble_eq_true rfl, Nat.le_of_ble_eq_true rfl⟩ (fun H locs hP hD hS => ?_)
    refine lv_icmp_eq (tgt := 321) hx hb d_law_122 (by decide) (fun c_122 => ?_) (fun c_122 => (c_122 rfl).elim)
    have hP : va_P D classes (cW k q wk hm lg dt ld ct mk false un sh ++ mW k q wk hm lg2 dt2 lo true mk ct lf sh) H := hP
    have hD : va_D A (cW k q wk hm lg dt ld ct mk false un sh ++ mW k q wk hm lg2 dt2 lo true mk ct lf sh) := hD
    exact kk _ _ ⟨wk, hm, lg, dt, ld, ct, mk, false, un, sh, lg2, dt2, lo, lf, hP, hD, hI⟩ hS
  · obtain ⟨e1, e2, hcl⟩ := hI.2.2.2.2.2.1 rfl
    have e2 := e2.symm
    subst e1; subst e2
    by_cases hp : isP (xs (i + 1)) (xs (i + 2))
    · obtain ⟨x, y, hx24, hy16, e1, e2⟩ := hp
      have hP : va_P D classes (cW k q wk hm lg dt ld ct false true un sh ++ mW k q wk hm lg2 dt lo false false ct lf sh) H := hP
      have hD : va_D A (cW k q wk hm lg dt ld ct false true un sh ++ mW k q wk hm lg2 dt lo false false ct lf sh) := hD
      refine lv_aload_n hx hb d_law_84 rfl (lv_at hl 1 rfl) ?_
      refine lv_aload_n hx hb d_law_85 rfl (lv_at hl 0 rfl) ?_
      refine lv_iload_n hx hb d_law_86 rfl (lv_at hl 3 rfl) ?_
      refine lv_iconst (v := (nI 1)) hx hb d_law_87 (by decide) ?_
      refine my_iadd hx hb (x := i) (y := 1) d_law_88 ?_
      refine my_sld hx hb hX hbl hbA hS (i := i + 1) (by omega) (by omega) d_law_89 ?_
      refine lv_as (y := (nI x)) e1 ?_
      refine lv_aload_n hx hb d_law_90 rfl (lv_at hl 0 rfl) ?_
      refine lv_iload_n hx hb d_law_91 rfl (lv_at hl 3 rfl) ?_
      refine lv_iconst (v := (nI 2)) hx hb d_law_92 (by decide) ?_
      refine my_iadd hx hb (x := i) (y := 2) d_law_93 ?_
      refine my_sld hx hb hX hbl hbA hS (i := i + 2) (by omega) (by omega) d_law_94 ?_
      refine lv_as (y := (nI y)) e2 ?_
      refine lv_aload_n hx hb d_law_95 rfl (lv_at hl 0 rfl) ?_
      refine lv_iload_n hx hb d_law_96 rfl (lv_at hl 3 rfl) ?_
      refine lv_iconst (v := (nI 3)) hx hb d_law_97 (by decide) ?_
      refine my_iadd hx hb (x := i) (y := 3) d_law_98 ?_
      refine my_sld hx hb hX hbl hbA hS (i := i + 3) (by omega) (by omega) d_law_99 ?_
      refine call_Vi (n := 3) (As := [.int (nI x), .int (nI y), .int (xs (i + 3))]) (ws' := cW k q (va_up wk (16 * x + y) (xs (i + 3)).toInt8) hm lg (va_up dt x true) ld ct false true un sh ++ mW k q wk hm lg2 dt lo false false ct lf sh) ⟨hx, hb, hml, hown, htw⟩ (c_Log_write_y l D k q wk hm lg dt ld ct false un sh x y (xs (i + 3)) hx24 hy16) (in_V tw_73 tw_74 tw_75 tw_9 tw_76) (by decide +kernel) ⟨rfl, rfl, Nat.le_of_ble_eq_true rfl, Nat.le_of_ble_eq_true rfl⟩ hK hN hP hD hS hA [0, 1, 2, 3, 4, 5, 6] [7, 8, 9, 10, 11, 12] [6, 7, 8, 9, 10, 11, 12, 0, 1, 2, 3, 4, 5] rfl rfl ([oM q false false ct lf sh, aB k (q 8) wk, aB k (q 9) hm, aB k (q 10) lg2, aZ k (q 11) dt, aZ k (q 12) lo]) rfl rfl (by decide) rfl rfl 0 rfl 0 rfl hl.1 rfl rfl (Nat.le_of_ble_eq_true rfl) d_law_100 ⟨Nat.le_of_ble_eq_true rfl, Nat.le_of_ble_eq_true rfl⟩ (fun H locs hP hD hS => ?_)
      refine lv_aload_n hx hb d_law_103 rfl (lv_at hl 2 rfl) ?_
      refine lv_aload_n hx hb d_law_104 rfl (lv_at hl 0 rfl) ?_
      refine lv_iload_n hx hb d_law_105 rfl (lv_at hl 3 rfl) ?_
      refine lv_iconst (v := (nI 1)) hx hb d_law_106 (by decide) ?_
      refine my_iadd hx hb (x := i) (y := 1) d_law_107 ?_
      refine my_sld hx hb hX hbl hbA hS (i := i + 1) (by omega) (by omega) d_law_108 ?_
      refine lv_as (y := (nI x)) e1 ?_
      refine lv_aload_n hx hb d_law_109 rfl (lv_at hl 0 rfl) ?_
      refine lv_iload_n hx hb d_law_110 rfl (lv_at hl 3 rfl) ?_
      refine lv_iconst (v := (nI 2)) hx hb d_law_111 (by decide) ?_
      refine my_iadd hx hb (x := i) (y := 2) d_law_112 ?_
      refine my_sld hx hb hX hbl hbA hS (i := i + 2) (by omega) (by omega) d_law_113 ?_
      refine lv_as (y := (nI y)) e2 ?_
      refine lv_aload_n hx hb d_law_114 rfl (lv_at hl 0 rfl) ?_
      refine lv_iload_n hx hb d_law_115 rfl (lv_at hl 3 rfl) ?_
      refine lv_iconst (v := (nI 3)) hx hb d_law_116 (by decide) ?_
      refine my_iadd hx hb (x := i) (y := 3) d_law_117 ?_
      refine my_sld hx hb hX hbl hbA hS (i := i + 3) (by omega) (by omega) d_law_118 ?_
      refine call_Vi (n := 3) (As := [.int (nI x), .int (nI y), .int (xs (i + 3))]) (ws' := cW k q (va_up wk (16 * x + y) (xs (i + 3)).toInt8) hm lg (va_up dt x true) ld ct false true un sh ++ mW k q (va_up wk (16 * x + y) (xs (i + 3)).toInt8) hm lg2 (va_up dt x true) lo false false ct lf sh) ⟨hx, hb, hml, hown, htw⟩ (c_Model_write_y l D k q wk hm lg2 dt lo false ct lf sh x y (xs (i + 3)) hx24 hy16) (in_V tw_183 tw_184 tw_185 tw_11 tw_186) (by decide +kernel) ⟨rfl, rfl, Nat.le_of_ble_eq_true rfl, Nat.le_of_ble_eq_true rfl⟩ hK hN hP hD hS hA [7, 8, 9, 10, 11, 12] [0, 1, 2, 3, 4, 5, 6] [0, 1, 2, 3, 4, 5, 6, 7, 8, 9, 10, 11, 12] rfl rfl ([oL q, oD q ct false true un sh, aB k (q 2) (va_up wk (16 * x + y) (xs (i + 3)).toInt8), aB k (q 3) hm, aB k (q 4) lg, aZ k (q 5) (va_up dt x true), aN k (q 6) ld]) rfl rfl (by decide) rfl rfl 2 rfl 7 rfl hl.1 rfl rfl (Nat.le_of_ble_eq_true rfl) d_law_119 ⟨Nat.le_of_ble_eq_true rfl, Nat.le_of_ble_eq_true rfl⟩ (fun H locs hP hD hS => ?_)
      refine lv_icmp_eq (tgt := 321) hx hb d_law_122 (by decide) (fun c_122 => ?_) (fun c_122 => (c_122 rfl).elim)
      have hP : va_P D classes (cW k q (va_up wk (16 * x + y) (xs (i + 3)).toInt8) hm lg (va_up dt x true) ld ct false true un sh ++ mW k q (va_up wk (16 * x + y) (xs (i + 3)).toInt8) hm lg2 (va_up dt x true) lo false false ct lf sh) H := hP
      have hD : va_D A (cW k q (va_up wk (16 * x + y) (xs (i + 3)).toInt8) hm lg (va_up dt x true) ld ct false true un sh ++ mW k q (va_up wk (16 * x + y) (xs (i + 3)).toInt8) hm lg2 (va_up dt x true) lo false false ct lf sh) := hD
      exact kk _ _ ⟨va_up wk (16 * x + y) (xs (i + 3)).toInt8, hm, lg, va_up dt x true, ld, ct, false, true, un, sh, lg2, va_up dt x true, lo, lf, hP, hD, IV_write hy16 (xs (i + 3)).toInt8 hI⟩ hS
    · have hP : va_P D classes (cW k q wk hm lg dt ld ct false true un sh ++ mW k q wk hm lg2 dt lo false false ct lf sh) H := hP
      have hD : va_D A (cW k q wk hm lg dt ld ct false true un sh ++ mW k q wk hm lg2 dt lo false false ct lf sh) := hD
      refine lv_aload_n hx hb d_law_84 rfl (lv_at hl 1 rfl) ?_
      refine lv_aload_n hx hb d_law_85 rfl (lv_at hl 0 rfl) ?_
      refine lv_iload_n hx hb d_law_86 rfl (lv_at hl 3 rfl) ?_
      refine lv_iconst (v := (nI 1)) hx hb d_law_87 (by decide) ?_
      refine my_iadd hx hb (x := i) (y := 1) d_law_88 ?_
      refine my_sld hx hb hX hbl hbA hS (i := i + 1) (by omega) (by omega) d_law_89 ?_
      refine lv_aload_n hx hb d_law_90 rfl (lv_at hl 0 rfl) ?_
      refine lv_iload_n hx hb d_law_91 rfl (lv_at hl 3 rfl) ?_
      refine lv_iconst (v := (nI 2)) hx hb d_law_92 (by decide) ?_
      refine my_iadd hx hb (x := i) (y := 2) d_law_93 ?_
      refine my_sld hx hb hX hbl hbA hS (i := i + 2) (by omega) (by omega) d_law_94 ?_
      refine lv_aload_n hx hb d_law_95 rfl (lv_at hl 0 rfl) ?_
      refine lv_iload_n hx hb d_law_96 rfl (lv_at hl 3 rfl) ?_
      refine lv_iconst (v := (nI 3)) hx hb d_law_97 (by decide) ?_
      refine my_iadd hx hb (x := i) (y := 3) d_law_98 ?_
      refine my_sld hx hb hX hbl hbA hS (i := i + 3) (by omega) (by omega) d_law_99 ?_
      refine call_Vi (n := 3) (As := [.int (xs (i + 1)), .int (xs (i + 2)), .int (xs (i + 3))]) (ws' := cW k q wk hm lg dt ld ct false true un sh ++ mW k q wk hm lg2 dt lo false false ct lf sh) ⟨hx, hb, hml, hown, htw⟩ (c_Log_write_n l D k q wk hm lg dt ld ct false un sh (xs (i + 1)) (xs (i + 2)) (xs (i + 3)) hp) (in_V tw_73 tw_74 tw_75 tw_9 tw_76) (by decide +kernel) ⟨rfl, rfl, Nat.le_of_ble_eq_true rfl, Nat.le_of_ble_eq_true rfl⟩ hK hN hP hD hS hA [0, 1, 2, 3, 4, 5, 6] [7, 8, 9, 10, 11, 12] [6, 7, 8, 9, 10, 11, 12, 0, 1, 2, 3, 4, 5] rfl rfl ([oM q false false ct lf sh, aB k (q 8) wk, aB k (q 9) hm, aB k (q 10) lg2, aZ k (q 11) dt, aZ k (q 12) lo]) rfl rfl (by decide) rfl rfl 0 rfl 0 rfl hl.1 rfl rfl (Nat.le_of_ble_eq_true rfl) d_law_100 ⟨Nat.le_of_ble_eq_true rfl, Nat.le_of_ble_eq_true rfl⟩ (fun H locs hP hD hS => ?_)
      refine lv_aload_n hx hb d_law_103 rfl (lv_at hl 2 rfl) ?_
      refine lv_aload_n hx hb d_law_104 rfl (lv_at hl 0 rfl) ?_
      refine lv_iload_n hx hb d_law_105 rfl (lv_at hl 3 rfl) ?_
      refine lv_iconst (v := (nI 1)) hx hb d_law_106 (by decide) ?_
      refine my_iadd hx hb (x := i) (y := 1) d_law_107 ?_
      refine my_sld hx hb hX hbl hbA hS (i := i + 1) (by omega) (by omega) d_law_108 ?_
      refine lv_aload_n hx hb d_law_109 rfl (lv_at hl 0 rfl) ?_
      refine lv_iload_n hx hb d_law_110 rfl (lv_at hl 3 rfl) ?_
      refine lv_iconst (v := (nI 2)) hx hb d_law_111 (by decide) ?_
      refine my_iadd hx hb (x := i) (y := 2) d_law_112 ?_
      refine my_sld hx hb hX hbl hbA hS (i := i + 2) (by omega) (by omega) d_law_113 ?_
      refine lv_aload_n hx hb d_law_114 rfl (lv_at hl 0 rfl) ?_
      refine lv_iload_n hx hb d_law_115 rfl (lv_at hl 3 rfl) ?_
      refine lv_iconst (v := (nI 3)) hx hb d_law_116 (by decide) ?_
      refine my_iadd hx hb (x := i) (y := 3) d_law_117 ?_
      refine my_sld hx hb hX hbl hbA hS (i := i + 3) (by omega) (by omega) d_law_118 ?_
      refine call_Vi (n := 3) (As := [.int (xs (i + 1)), .int (xs (i + 2)), .int (xs (i + 3))]) (ws' := cW k q wk hm lg dt ld ct false true un sh ++ mW k q wk hm lg2 dt lo false false ct lf sh) ⟨hx, hb, hml, hown, htw⟩ (c_Model_write_n l D k q wk hm lg2 dt lo false ct lf sh (xs (i + 1)) (xs (i + 2)) (xs (i + 3)) hp) (in_V tw_183 tw_184 tw_185 tw_11 tw_186) (by decide +kernel) ⟨rfl, rfl, Nat.le_of_ble_eq_true rfl, Nat.le_of_ble_eq_true rfl⟩ hK hN hP hD hS hA [7, 8, 9, 10, 11, 12] [0, 1, 2, 3, 4, 5, 6] [0, 1, 2, 3, 4, 5, 6, 7, 8, 9, 10, 11, 12] rfl rfl ([oL q, oD q ct false true un sh, aB k (q 2) wk, aB k (q 3) hm, aB k (q 4) lg, aZ k (q 5) dt, aN k (q 6) ld]) rfl rfl (by decide) rfl rfl 2 rfl 7 rfl hl.1 rfl rfl (Nat.le_of_ble_eq_true rfl) d_law_119 ⟨Nat.le_of_ble_eq_true rfl, Nat.le_of_ble_eq_true rfl⟩ (fun H locs hP hD hS => ?_)
      refine lv_icmp_eq (tgt := 321) hx hb d_law_122 (by decide) (fun c_122 => ?_) (fun c_122 => (c_122 rfl).elim)
      have hP : va_P D classes (cW k q wk hm lg dt ld ct false true un sh ++ mW k q wk hm lg2 dt lo false false ct lf sh) H := hP
      have hD : va_D A (cW k q wk hm lg dt ld ct false true un sh ++ mW k q wk hm lg2 dt lo false false ct lf sh) := hD
      exact kk _ _ ⟨wk, hm, lg, dt, ld, ct, false, true, un, sh, lg2, dt, lo, lf, hP, hD, hI⟩ hS
set_option maxHeartbeats 4000000 in
set_option maxRecDepth 100000 in
theorem op_127 {p : Program} {l : Launch} {e : Env} {s : State} {m : MethodId} {below : List Frame} {meth : Method} {c : Code} {Q : State → Prop} {b L : Nat} {xs : Nat → Int32} {D : va_G} {k : Nat → ClassId} {q : Nat → Nat} {A : Nat → Prop} {i : Nat} {ls : Array Slot} {H : Heap} {locs : List Loc} (hL : L ≤ 2048) (C0 : lw_At p s m meth c b L xs) (hA : ∀ q, s.heap.size ≤ q → A q) (hbA : ¬ A b) (hi : i + 4 ≤ L) (hK : va_K D classes (tyK k) s) (hG : GS D k q A H) (hS : va_S A s.heap H locs) (hl : lv_has ls 4 [(0, .ref b), (1, .ref (q 0)), (2, .ref (q 7)), (3, .int (nI i))])
    (kk : ∀ (H : Heap) (locs : List Loc), GS D k q A H → va_S A s.heap H locs → W p l e room_1 s m #[Value.ref b] below meth c H locs 13 2421 Q (F0 m 321 ls [])) : W p l e room_1 s m #[Value.ref b] below meth c H locs 13 2421 Q (F0 m 127 ls []) := by
  obtain ⟨hx, hb, hr, hml, hown, hts, hX, hbl, hlocks, hgv⟩ := C0
  have htw := htw_of hts
  have hN := NW.of hts
  obtain ⟨wk, hm, lg, dt, ld, ct, mk, on, un, sh, lg2, dt2, lo, lf, hP, hD, hI⟩ := hG
  cases on
  · have hP : va_P D classes (cW k q wk hm lg dt ld ct mk false un sh ++ mW k q wk hm lg2 dt2 lo true mk ct lf sh) H := hP
    have hD : va_D A (cW k q wk hm lg dt ld ct mk false un sh ++ mW k q wk hm lg2 dt2 lo true mk ct lf sh) := hD
    refine lv_aload_n hx hb d_law_127 rfl (lv_at hl 1 rfl) ?_
    refine lv_aload_n hx hb d_law_128 rfl (lv_at hl 0 rfl) ?_
    refine lv_iload_n hx hb d_law_129 rfl (lv_at hl 3 rfl) ?_
    refine lv_iconst (v := (nI 1)) hx hb d_law_130 (by decide) ?_
    refine my_iadd hx hb (x := i) (y := 1) d_law_131 ?_
    refine my_sld hx hb hX hbl hbA hS (i := i + 1) (by omega) (by omega) d_law_132 ?_
    refine lv_aload_n hx hb d_law_133 rfl (lv_at hl 0 rfl) ?_
    refine lv_iload_n hx hb d_law_134 rfl (lv_at hl 3 rfl) ?_
    refine lv_iconst (v := (nI 2)) hx hb d_law_135 (by decide) ?_
    refine my_iadd hx hb (x := i) (y := 2) d_law_136 ?_
    refine my_sld hx hb hX hbl hbA hS (i := i + 2) (by omega) (by omega) d_law_137 ?_
    refine call_Vi (n := 2) (As := [.int (xs (i + 1)), .int (xs (i + 2))]) (ws' := cW k q wk hm lg dt ld ct mk false un sh ++ mW k q wk hm lg2 dt2 lo true mk ct lf sh) ⟨hx, hb, hml, hown, htw⟩ (c_Log_read_off l D k q wk hm lg dt ld ct mk un sh (xs (i + 1)) (xs (i + 2))) (in_V tw_84 tw_85 tw_86 tw_9 tw_87) (by decide +kernel) ⟨rfl, rfl, Nat.le_of_ble_eq_true rfl, Nat.le_of_ble_eq_true rfl⟩ hK hN hP hD hS hA [0, 1, 2, 3, 4, 5, 6] [7, 8, 9, 10, 11, 12] [6, 7, 8, 9, 10, 11, 12, 0, 1, 2, 3, 4, 5] rfl rfl ([oM q true mk ct lf sh, aB k (q 8) wk, aB k (q 9) hm, aB k (q 10) lg2, aZ k (q 11) dt2, aZ k (q 12) lo]) rfl rfl (by decide) rfl rfl 0 rfl 0 rfl hl.1 rfl rfl (Nat.le_of_ble_eq_true rfl) d_law_138 ⟨Nat.le_of_ble_eq_true rfl, Nat.le_of_ble_eq_true rfl⟩ (fun H locs hP hD hS => ?_)
    refine lv_aload_n hx hb d_law_141 rfl (lv_at hl 2 rfl) ?_
    refine lv_aload_n hx hb d_law_142 rfl (lv_at hl 0 rfl) ?_
    refine lv_iload_n hx hb d_law_143 rfl (lv_at hl 3 rfl) ?_
    refine lv_iconst (v := (nI 1)) hx hb d_law_144 (by decide) ?_
    refine my_iadd hx hb (x := i) (y := 1) d_law_145 ?_
    refine my_sld hx hb hX hbl hbA hS (i := i + 1) (by omega) (by omega) d_law_146 ?_
    refine lv_aload_n hx hb d_law_147 rfl (lv_at hl 0 rfl) ?_
    refine lv_iload_n hx hb d_law_148 rfl (lv_at hl 3 rfl) ?_
    refine lv_iconst (v := (nI 2)) hx hb d_law_149 (by decide) ?_
    refine my_iadd hx hb (x := i) (y := 2) d_law_150 ?_
    refine my_sld hx hb hX hbl hbA hS (i := i + 2) (by omega) (by omega) d_law_151 ?_
    refine call_Vi (n := 2) (As := [.int (xs (i + 1)), .int (xs (i + 2))]) (ws' := cW k q wk hm lg dt ld ct mk false un sh ++ mW k q wk hm lg2 dt2 lo true mk ct lf sh) ⟨hx, hb, hml, hown, htw⟩ (c_Model_read_off l D k q wk hm lg2 dt2 lo mk ct lf sh (xs (i + 1)) (xs (i + 2))) (in_V tw_193 tw_194 tw_195 tw_11 tw_196) (by decide +kernel) ⟨rfl, rfl, Nat.le_of_ble_eq_true rfl, Nat.le_of_ble_eq_true rfl⟩ hK hN hP hD hS hA [7, 8, 9, 10, 11, 12] [0, 1, 2, 3, 4, 5, 6] [0, 1, 2, 3, 4, 5, 6, 7, 8, 9, 10, 11, 12] rfl rfl ([oL q, oD q ct mk false un sh, aB k (q 2) wk, aB k (q 3) hm, aB k (q 4) lg, aZ k (q 5) dt, aN k (q 6) ld]) rfl rfl (by decide) rfl rfl 2 rfl 7 rfl hl.1 rfl rfl (Nat.le_of_ble_eq_true rfl) d_law_152 ⟨Nat.le_of_ble_eq_true rfl, Nat.le_of_ble_eq_true rfl⟩ (fun H locs hP hD hS => ?_)
    refine lv_icmp_eq (tgt := 321) hx hb d_law_155 (by decide) (fun c_155 => ?_) (fun c_155 => (c_155 rfl).elim)
    have hP : va_P D classes (cW k q wk hm lg dt ld ct mk false un sh ++ mW k q wk hm lg2 dt2 lo true mk ct lf sh) H := hP
    have hD : va_D A (cW k q wk hm lg dt ld ct mk false un sh ++ mW k q wk hm lg2 dt2 lo true mk ct lf sh) := hD
    exact kk _ _ ⟨wk, hm, lg, dt, ld, ct, mk, false, un, sh, lg2, dt2, lo, lf, hP, hD, hI⟩ hS
  · obtain ⟨e1, e2, hcl⟩ := hI.2.2.2.2.2.1 rfl
    have e2 := e2.symm
    subst e1; subst e2
    by_cases hp : isP (xs (i + 1)) (xs (i + 2))
    · obtain ⟨x, y, hx24, hy16, e1, e2⟩ := hp
      have hP : va_P D classes (cW k q wk hm lg dt ld ct false true un sh ++ mW k q wk hm lg2 dt lo false false ct lf sh) H := hP
      have hD : va_D A (cW k q wk hm lg dt ld ct false true un sh ++ mW k q wk hm lg2 dt lo false false ct lf sh) := hD
      refine lv_aload_n hx hb d_law_127 rfl (lv_at hl 1 rfl) ?_
      refine lv_aload_n hx hb d_law_128 rfl (lv_at hl 0 rfl) ?_
      refine lv_iload_n hx hb d_law_129 rfl (lv_at hl 3 rfl) ?_
      refine lv_iconst (v := (nI 1)) hx hb d_law_130 (by decide) ?_
      refine my_iadd hx hb (x := i) (y := 1) d_law_131 ?_
      refine my_sld hx hb hX hbl hbA hS (i := i + 1) (by omega) (by omega) d_law_132 ?_
      refine lv_as (y := (nI x)) e1 ?_
      refine lv_aload_n hx hb d_law_133 rfl (lv_at hl 0 rfl) ?_
      refine lv_iload_n hx hb d_law_134 rfl (lv_at hl 3 rfl) ?_
      refine lv_iconst (v := (nI 2)) hx hb d_law_135 (by decide) ?_
      refine my_iadd hx hb (x := i) (y := 2) d_law_136 ?_
      refine my_sld hx hb hX hbl hbA hS (i := i + 2) (by omega) (by omega) d_law_137 ?_
      refine lv_as (y := (nI y)) e2 ?_
      refine call_Vi (n := 2) (As := [.int (nI x), .int (nI y)]) (ws' := cW k q wk hm lg dt ld ct false true un sh ++ mW k q wk hm lg2 dt lo false false ct lf sh) ⟨hx, hb, hml, hown, htw⟩ (c_Log_read_y l D k q wk hm lg dt ld ct false un sh x y hx24 hy16) (in_V tw_84 tw_85 tw_86 tw_9 tw_87) (by decide +kernel) ⟨rfl, rfl, Nat.le_of_ble_eq_true rfl, Nat.le_of_ble_eq_true rfl⟩ hK hN hP hD hS hA [0, 1, 2, 3, 4, 5, 6] [7, 8, 9, 10, 11, 12] [6, 7, 8, 9, 10, 11, 12, 0, 1, 2, 3, 4, 5] rfl rfl ([oM q false false ct lf sh, aB k (q 8) wk, aB k (q 9) hm, aB k (q 10) lg2, aZ k (q 11) dt, aZ k (q 12) lo]) rfl rfl (by decide) rfl rfl 0 rfl 0 rfl hl.1 rfl rfl (Nat.le_of_ble_eq_true rfl) d_law_138 ⟨Nat.le_of_ble_eq_true rfl, Nat.le_of_ble_eq_true rfl⟩ (fun H locs hP hD hS => ?_)
      refine lv_aload_n hx hb d_law_141 rfl (lv_at hl 2 rfl) ?_
      refine lv_aload_n hx hb d_law_142 rfl (lv_at hl 0 rfl) ?_
      refine lv_iload_n hx hb d_law_143 rfl (lv_at hl 3 rfl) ?_
      refine lv_iconst (v := (nI 1)) hx hb d_law_144 (by decide) ?_
      refine my_iadd hx hb (x := i) (y := 1) d_law_145 ?_
      refine my_sld hx hb hX hbl hbA hS (i := i + 1) (by omega) (by omega) d_law_146 ?_
      refine lv_as (y := (nI x)) e1 ?_
      refine lv_aload_n hx hb d_law_147 rfl (lv_at hl 0 rfl) ?_
      refine lv_iload_n hx hb d_law_148 rfl (lv_at hl 3 rfl) ?_
      refine lv_iconst (v := (nI 2)) hx hb d_law_149 (by decide) ?_
      refine my_iadd hx hb (x := i) (y := 2) d_law_150 ?_
      refine my_sld hx hb hX hbl hbA hS (i := i + 2) (by omega) (by omega) d_law_151 ?_
      refine lv_as (y := (nI y)) e2 ?_
      refine call_Vi (n := 2) (As := [.int (nI x), .int (nI y)]) (ws' := cW k q wk hm lg dt ld ct false true un sh ++ mW k q wk hm lg2 dt lo false false ct lf sh) ⟨hx, hb, hml, hown, htw⟩ (c_Model_read_y l D k q wk hm lg2 dt lo false ct lf sh x y hx24 hy16) (in_V tw_193 tw_194 tw_195 tw_11 tw_196) (by decide +kernel) ⟨rfl, rfl, Nat.le_of_ble_eq_true rfl, Nat.le_of_ble_eq_true rfl⟩ hK hN hP hD hS hA [7, 8, 9, 10, 11, 12] [0, 1, 2, 3, 4, 5, 6] [0, 1, 2, 3, 4, 5, 6, 7, 8, 9, 10, 11, 12] rfl rfl ([oL q, oD q ct false true un sh, aB k (q 2) wk, aB k (q 3) hm, aB k (q 4) lg, aZ k (q 5) dt, aN k (q 6) ld]) rfl rfl (by decide) rfl rfl 2 rfl 7 rfl hl.1 rfl rfl (Nat.le_of_ble_eq_true rfl) d_law_152 ⟨Nat.le_of_ble_eq_true rfl, Nat.le_of_ble_eq_true rfl⟩ (fun H locs hP hD hS => ?_)
      refine lv_icmp_eq (tgt := 321) hx hb d_law_155 (by decide) (fun c_155 => ?_) (fun c_155 => (c_155 rfl).elim)
      have hP : va_P D classes (cW k q wk hm lg dt ld ct false true un sh ++ mW k q wk hm lg2 dt lo false false ct lf sh) H := hP
      have hD : va_D A (cW k q wk hm lg dt ld ct false true un sh ++ mW k q wk hm lg2 dt lo false false ct lf sh) := hD
      exact kk _ _ ⟨wk, hm, lg, dt, ld, ct, false, true, un, sh, lg2, dt, lo, lf, hP, hD, hI⟩ hS
    · have hP : va_P D classes (cW k q wk hm lg dt ld ct false true un sh ++ mW k q wk hm lg2 dt lo false false ct lf sh) H := hP
      have hD : va_D A (cW k q wk hm lg dt ld ct false true un sh ++ mW k q wk hm lg2 dt lo false false ct lf sh) := hD
      refine lv_aload_n hx hb d_law_127 rfl (lv_at hl 1 rfl) ?_
      refine lv_aload_n hx hb d_law_128 rfl (lv_at hl 0 rfl) ?_
      refine lv_iload_n hx hb d_law_129 rfl (lv_at hl 3 rfl) ?_
      refine lv_iconst (v := (nI 1)) hx hb d_law_130 (by decide) ?_
      refine my_iadd hx hb (x := i) (y := 1) d_law_131 ?_
      refine my_sld hx hb hX hbl hbA hS (i := i + 1) (by omega) (by omega) d_law_132 ?_
      refine lv_aload_n hx hb d_law_133 rfl (lv_at hl 0 rfl) ?_
      refine lv_iload_n hx hb d_law_134 rfl (lv_at hl 3 rfl) ?_
      refine lv_iconst (v := (nI 2)) hx hb d_law_135 (by decide) ?_
      refine my_iadd hx hb (x := i) (y := 2) d_law_136 ?_
      refine my_sld hx hb hX hbl hbA hS (i := i + 2) (by omega) (by omega) d_law_137 ?_
      refine call_Vi (n := 2) (As := [.int (xs (i + 1)), .int (xs (i + 2))]) (ws' := cW k q wk hm lg dt ld ct false true un sh ++ mW k q wk hm lg2 dt lo false false ct lf sh) ⟨hx, hb, hml, hown, htw⟩ (c_Log_read_n l D k q wk hm lg dt ld ct false un sh (xs (i + 1)) (xs (i + 2)) hp) (in_V tw_84 tw_85 tw_86 tw_9 tw_87) (by decide +kernel) ⟨rfl, rfl, Nat.le_of_ble_eq_true rfl, Nat.le_of_ble_eq_true rfl⟩ hK hN hP hD hS hA [0, 1, 2, 3, 4, 5, 6] [7, 8, 9, 10, 11, 12] [6, 7, 8, 9, 10, 11, 12, 0, 1, 2, 3, 4, 5] rfl rfl ([oM q false false ct lf sh, aB k (q 8) wk, aB k (q 9) hm, aB k (q 10) lg2, aZ k (q 11) dt, aZ k (q 12) lo]) rfl rfl (by decide) rfl rfl 0 rfl 0 rfl hl.1 rfl rfl (Nat.le_of_ble_eq_true rfl) d_law_138 ⟨Nat.le_of_ble_eq_true rfl, Nat.le_of_ble_eq_true rfl⟩ (fun H locs hP hD hS => ?_)
      refine lv_aload_n hx hb d_law_141 rfl (lv_at hl 2 rfl) ?_
      refine lv_aload_n hx hb d_law_142 rfl (lv_at hl 0 rfl) ?_
      refine lv_iload_n hx hb d_law_143 rfl (lv_at hl 3 rfl) ?_
      refine lv_iconst (v := (nI 1)) hx hb d_law_144 (by decide) ?_
      refine my_iadd hx hb (x := i) (y := 1) d_law_145 ?_
      refine my_sld hx hb hX hbl hbA hS (i := i + 1) (by omega) (by omega) d_law_146 ?_
      refine lv_aload_n hx hb d_law_147 rfl (lv_at hl 0 rfl) ?_
      refine lv_iload_n hx hb d_law_148 rfl (lv_at hl 3 rfl) ?_
      refine lv_iconst (v := (nI 2)) hx hb d_law_149 (by decide) ?_
      refine my_iadd hx hb (x := i) (y := 2) d_law_150 ?_
      refine my_sld hx hb hX hbl hbA hS (i := i + 2) (by omega) (by omega) d_law_151 ?_
      refine call_Vi (n := 2) (As := [.int (xs (i + 1)), .int (xs (i + 2))]) (ws' := cW k q wk hm lg dt ld ct false true un sh ++ mW k q wk hm lg2 dt lo false false ct lf sh) ⟨hx, hb, hml, hown, htw⟩ (c_Model_read_n l D k q wk hm lg2 dt lo false ct lf sh (xs (i + 1)) (xs (i + 2)) hp) (in_V tw_193 tw_194 tw_195 tw_11 tw_196) (by decide +kernel) ⟨rfl, rfl, Nat.le_of_ble_eq_true rfl, Nat.le_of_ble_eq_true rfl⟩ hK hN hP hD hS hA [7, 8, 9, 10, 11, 12] [0, 1, 2, 3, 4, 5, 6] [0, 1, 2, 3, 4, 5, 6, 7, 8, 9, 10, 11, 12] rfl rfl ([oL q, oD q ct false true un sh, aB k (q 2) wk, aB k (q 3) hm, aB k (q 4) lg, aZ k (q 5) dt, aN k (q 6) ld]) rfl rfl (by decide) rfl rfl 2 rfl 7 rfl hl.1 rfl rfl (Nat.le_of_ble_eq_true rfl) d_law_152 ⟨Nat.le_of_ble_eq_true rfl, Nat.le_of_ble_eq_true rfl⟩ (fun H locs hP hD hS => ?_)
      refine lv_icmp_eq (tgt := 321) hx hb d_law_155 (by decide) (fun c_155 => ?_) (fun c_155 => (c_155 rfl).elim)
      have hP : va_P D classes (cW k q wk hm lg dt ld ct false true un sh ++ mW k q wk hm lg2 dt lo false false ct lf sh) H := hP
      have hD : va_D A (cW k q wk hm lg dt ld ct false true un sh ++ mW k q wk hm lg2 dt lo false false ct lf sh) := hD
      exact kk _ _ ⟨wk, hm, lg, dt, ld, ct, false, true, un, sh, lg2, dt, lo, lf, hP, hD, hI⟩ hS
set_option maxHeartbeats 4000000 in
set_option maxRecDepth 100000 in
theorem op_160 {p : Program} {l : Launch} {e : Env} {s : State} {m : MethodId} {below : List Frame} {meth : Method} {c : Code} {Q : State → Prop} {b L : Nat} {xs : Nat → Int32} {D : va_G} {k : Nat → ClassId} {q : Nat → Nat} {A : Nat → Prop} {i : Nat} {ls : Array Slot} {H : Heap} {locs : List Loc} (hL : L ≤ 2048) (C0 : lw_At p s m meth c b L xs) (hA : ∀ q, s.heap.size ≤ q → A q) (hbA : ¬ A b) (hi : i + 4 ≤ L) (hK : va_K D classes (tyK k) s) (hG : GS D k q A H) (hS : va_S A s.heap H locs) (hl : lv_has ls 4 [(0, .ref b), (1, .ref (q 0)), (2, .ref (q 7)), (3, .int (nI i))])
    (kk : ∀ (H : Heap) (locs : List Loc), GS D k q A H → va_S A s.heap H locs → W p l e room_1 s m #[Value.ref b] below meth c H locs 13 2421 Q (F0 m 321 ls [])) : W p l e room_1 s m #[Value.ref b] below meth c H locs 13 2421 Q (F0 m 160 ls []) := by
  obtain ⟨hx, hb, hr, hml, hown, hts, hX, hbl, hlocks, hgv⟩ := C0
  have htw := htw_of hts
  have hN := NW.of hts
  obtain ⟨wk, hm, lg, dt, ld, ct, mk, on, un, sh, lg2, dt2, lo, lf, hP, hD, hI⟩ := hG
  by_cases hp : isP (xs (i + 1)) (xs (i + 2))
  · obtain ⟨x, y, hx24, hy16, e1, e2⟩ := hp
    have hP : va_P D classes (cW k q wk hm lg dt ld ct mk on un sh ++ mW k q wk hm lg2 dt2 lo (!on) mk ct lf sh) H := hP
    have hD : va_D A (cW k q wk hm lg dt ld ct mk on un sh ++ mW k q wk hm lg2 dt2 lo (!on) mk ct lf sh) := hD
    refine lv_aload_n hx hb d_law_160 rfl (lv_at hl 1 rfl) ?_
    refine lv_aload_n hx hb d_law_161 rfl (lv_at hl 0 rfl) ?_
    refine lv_iload_n hx hb d_law_162 rfl (lv_at hl 3 rfl) ?_
    refine lv_iconst (v := (nI 1)) hx hb d_law_163 (by decide) ?_
    refine my_iadd hx hb (x := i) (y := 1) d_law_164 ?_
    refine my_sld hx hb hX hbl hbA hS (i := i + 1) (by omega) (by omega) d_law_165 ?_
    refine lv_as (y := (nI x)) e1 ?_
    refine lv_aload_n hx hb d_law_166 rfl (lv_at hl 0 rfl) ?_
    refine lv_iload_n hx hb d_law_167 rfl (lv_at hl 3 rfl) ?_
    refine lv_iconst (v := (nI 2)) hx hb d_law_168 (by decide) ?_
    refine my_iadd hx hb (x := i) (y := 2) d_law_169 ?_
    refine my_sld hx hb hX hbl hbA hS (i := i + 2) (by omega) (by omega) d_law_170 ?_
    refine lv_as (y := (nI y)) e2 ?_
    refine call_Vi (n := 2) (As := [.int (nI x), .int (nI y)]) (ws' := cW k q wk hm lg dt ld ct mk on un sh ++ mW k q wk hm lg2 dt2 lo (!on) mk ct lf sh) ⟨hx, hb, hml, hown, htw⟩ (c_Log_disk_y l D k q wk hm lg dt ld ct mk on un sh x y hx24 hy16) (in_V tw_88 tw_89 tw_90 tw_9 tw_91) (by decide +kernel) ⟨rfl, rfl, Nat.le_of_ble_eq_true rfl, Nat.le_of_ble_eq_true rfl⟩ hK hN hP hD hS hA [0, 1, 2, 3, 4, 5, 6] [7, 8, 9, 10, 11, 12] [6, 7, 8, 9, 10, 11, 12, 0, 1, 2, 3, 4, 5] rfl rfl ([oM q (!on) mk ct lf sh, aB k (q 8) wk, aB k (q 9) hm, aB k (q 10) lg2, aZ k (q 11) dt2, aZ k (q 12) lo]) rfl rfl (by decide) rfl rfl 0 rfl 0 rfl hl.1 rfl rfl (Nat.le_of_ble_eq_true rfl) d_law_171 ⟨Nat.le_of_ble_eq_true rfl, Nat.le_of_ble_eq_true rfl⟩ (fun H locs hP hD hS => ?_)
    refine lv_aload_n hx hb d_law_174 rfl (lv_at hl 2 rfl) ?_
    refine lv_aload_n hx hb d_law_175 rfl (lv_at hl 0 rfl) ?_
    refine lv_iload_n hx hb d_law_176 rfl (lv_at hl 3 rfl) ?_
    refine lv_iconst (v := (nI 1)) hx hb d_law_177 (by decide) ?_
    refine my_iadd hx hb (x := i) (y := 1) d_law_178 ?_
    refine my_sld hx hb hX hbl hbA hS (i := i + 1) (by omega) (by omega) d_law_179 ?_
    refine lv_as (y := (nI x)) e1 ?_
    refine lv_aload_n hx hb d_law_180 rfl (lv_at hl 0 rfl) ?_
    refine lv_iload_n hx hb d_law_181 rfl (lv_at hl 3 rfl) ?_
    refine lv_iconst (v := (nI 2)) hx hb d_law_182 (by decide) ?_
    refine my_iadd hx hb (x := i) (y := 2) d_law_183 ?_
    refine my_sld hx hb hX hbl hbA hS (i := i + 2) (by omega) (by omega) d_law_184 ?_
    refine lv_as (y := (nI y)) e2 ?_
    refine call_Vi (n := 2) (As := [.int (nI x), .int (nI y)]) (ws' := cW k q wk hm lg dt ld ct mk on un sh ++ mW k q wk hm lg2 dt2 lo (!on) mk ct lf sh) ⟨hx, hb, hml, hown, htw⟩ (c_Model_disk_y l D k q wk hm lg2 dt2 lo (!on) mk ct lf sh x y hx24 hy16) (in_V tw_197 tw_198 tw_199 tw_11 tw_200) (by decide +kernel) ⟨rfl, rfl, Nat.le_of_ble_eq_true rfl, Nat.le_of_ble_eq_true rfl⟩ hK hN hP hD hS hA [7, 8, 9, 10, 11, 12] [0, 1, 2, 3, 4, 5, 6] [0, 1, 2, 3, 4, 5, 6, 7, 8, 9, 10, 11, 12] rfl rfl ([oL q, oD q ct mk on un sh, aB k (q 2) wk, aB k (q 3) hm, aB k (q 4) lg, aZ k (q 5) dt, aN k (q 6) ld]) rfl rfl (by decide) rfl rfl 2 rfl 7 rfl hl.1 rfl rfl (Nat.le_of_ble_eq_true rfl) d_law_185 ⟨Nat.le_of_ble_eq_true rfl, Nat.le_of_ble_eq_true rfl⟩ (fun H locs hP hD hS => ?_)
    refine lv_icmp_eq (tgt := 321) hx hb d_law_188 (by decide) (fun c_188 => ?_) (fun c_188 => (c_188 rfl).elim)
    have hP : va_P D classes (cW k q wk hm lg dt ld ct mk on un sh ++ mW k q wk hm lg2 dt2 lo (!on) mk ct lf sh) H := hP
    have hD : va_D A (cW k q wk hm lg dt ld ct mk on un sh ++ mW k q wk hm lg2 dt2 lo (!on) mk ct lf sh) := hD
    exact kk _ _ ⟨wk, hm, lg, dt, ld, ct, mk, on, un, sh, lg2, dt2, lo, lf, hP, hD, hI⟩ hS
  · have hP : va_P D classes (cW k q wk hm lg dt ld ct mk on un sh ++ mW k q wk hm lg2 dt2 lo (!on) mk ct lf sh) H := hP
    have hD : va_D A (cW k q wk hm lg dt ld ct mk on un sh ++ mW k q wk hm lg2 dt2 lo (!on) mk ct lf sh) := hD
    refine lv_aload_n hx hb d_law_160 rfl (lv_at hl 1 rfl) ?_
    refine lv_aload_n hx hb d_law_161 rfl (lv_at hl 0 rfl) ?_
    refine lv_iload_n hx hb d_law_162 rfl (lv_at hl 3 rfl) ?_
    refine lv_iconst (v := (nI 1)) hx hb d_law_163 (by decide) ?_
    refine my_iadd hx hb (x := i) (y := 1) d_law_164 ?_
    refine my_sld hx hb hX hbl hbA hS (i := i + 1) (by omega) (by omega) d_law_165 ?_
    refine lv_aload_n hx hb d_law_166 rfl (lv_at hl 0 rfl) ?_
    refine lv_iload_n hx hb d_law_167 rfl (lv_at hl 3 rfl) ?_
    refine lv_iconst (v := (nI 2)) hx hb d_law_168 (by decide) ?_
    refine my_iadd hx hb (x := i) (y := 2) d_law_169 ?_
    refine my_sld hx hb hX hbl hbA hS (i := i + 2) (by omega) (by omega) d_law_170 ?_
    refine call_Vi (n := 2) (As := [.int (xs (i + 1)), .int (xs (i + 2))]) (ws' := cW k q wk hm lg dt ld ct mk on un sh ++ mW k q wk hm lg2 dt2 lo (!on) mk ct lf sh) ⟨hx, hb, hml, hown, htw⟩ (c_Log_disk_n l D k q wk hm lg dt ld ct mk on un sh (xs (i + 1)) (xs (i + 2)) hp) (in_V tw_88 tw_89 tw_90 tw_9 tw_91) (by decide +kernel) ⟨rfl, rfl, Nat.le_of_ble_eq_true rfl, Nat.le_of_ble_eq_true rfl⟩ hK hN hP hD hS hA [0, 1, 2, 3, 4, 5, 6] [7, 8, 9, 10, 11, 12] [6, 7, 8, 9, 10, 11, 12, 0, 1, 2, 3, 4, 5] rfl rfl ([oM q (!on) mk ct lf sh, aB k (q 8) wk, aB k (q 9) hm, aB k (q 10) lg2, aZ k (q 11) dt2, aZ k (q 12) lo]) rfl rfl (by decide) rfl rfl 0 rfl 0 rfl hl.1 rfl rfl (Nat.le_of_ble_eq_true rfl) d_law_171 ⟨Nat.le_of_ble_eq_true rfl, Nat.le_of_ble_eq_true rfl⟩ (fun H locs hP hD hS => ?_)
    refine lv_aload_n hx hb d_law_174 rfl (lv_at hl 2 rfl) ?_
    refine lv_aload_n hx hb d_law_175 rfl (lv_at hl 0 rfl) ?_
    refine lv_iload_n hx hb d_law_176 rfl (lv_at hl 3 rfl) ?_
    refine lv_iconst (v := (nI 1)) hx hb d_law_177 (by decide) ?_
    refine my_iadd hx hb (x := i) (y := 1) d_law_178 ?_
    refine my_sld hx hb hX hbl hbA hS (i := i + 1) (by omega) (by omega) d_law_179 ?_
    refine lv_aload_n hx hb d_law_180 rfl (lv_at hl 0 rfl) ?_
    refine lv_iload_n hx hb d_law_181 rfl (lv_at hl 3 rfl) ?_
    refine lv_iconst (v := (nI 2)) hx hb d_law_182 (by decide) ?_
    refine my_iadd hx hb (x := i) (y := 2) d_law_183 ?_
    refine my_sld hx hb hX hbl hbA hS (i := i + 2) (by omega) (by omega) d_law_184 ?_
    refine call_Vi (n := 2) (As := [.int (xs (i + 1)), .int (xs (i + 2))]) (ws' := cW k q wk hm lg dt ld ct mk on un sh ++ mW k q wk hm lg2 dt2 lo (!on) mk ct lf sh) ⟨hx, hb, hml, hown, htw⟩ (c_Model_disk_n l D k q wk hm lg2 dt2 lo (!on) mk ct lf sh (xs (i + 1)) (xs (i + 2)) hp) (in_V tw_197 tw_198 tw_199 tw_11 tw_200) (by decide +kernel) ⟨rfl, rfl, Nat.le_of_ble_eq_true rfl, Nat.le_of_ble_eq_true rfl⟩ hK hN hP hD hS hA [7, 8, 9, 10, 11, 12] [0, 1, 2, 3, 4, 5, 6] [0, 1, 2, 3, 4, 5, 6, 7, 8, 9, 10, 11, 12] rfl rfl ([oL q, oD q ct mk on un sh, aB k (q 2) wk, aB k (q 3) hm, aB k (q 4) lg, aZ k (q 5) dt, aN k (q 6) ld]) rfl rfl (by decide) rfl rfl 2 rfl 7 rfl hl.1 rfl rfl (Nat.le_of_ble_eq_true rfl) d_law_185 ⟨Nat.le_of_ble_eq_true rfl, Nat.le_of_ble_eq_true rfl⟩ (fun H locs hP hD hS => ?_)
    refine lv_icmp_eq (tgt := 321) hx hb d_law_188 (by decide) (fun c_188 => ?_) (fun c_188 => (c_188 rfl).elim)
    have hP : va_P D classes (cW k q wk hm lg dt ld ct mk on un sh ++ mW k q wk hm lg2 dt2 lo (!on) mk ct lf sh) H := hP
    have hD : va_D A (cW k q wk hm lg dt ld ct mk on un sh ++ mW k q wk hm lg2 dt2 lo (!on) mk ct lf sh) := hD
    exact kk _ _ ⟨wk, hm, lg, dt, ld, ct, mk, on, un, sh, lg2, dt2, lo, lf, hP, hD, hI⟩ hS
set_option maxHeartbeats 4000000 in
set_option maxRecDepth 100000 in
theorem op_193 {p : Program} {l : Launch} {e : Env} {s : State} {m : MethodId} {below : List Frame} {meth : Method} {c : Code} {Q : State → Prop} {b L : Nat} {xs : Nat → Int32} {D : va_G} {k : Nat → ClassId} {q : Nat → Nat} {A : Nat → Prop} {i : Nat} {ls : Array Slot} {H : Heap} {locs : List Loc} (hL : L ≤ 2048) (C0 : lw_At p s m meth c b L xs) (hA : ∀ q, s.heap.size ≤ q → A q) (hbA : ¬ A b) (hi : i + 4 ≤ L) (hK : va_K D classes (tyK k) s) (hG : GS D k q A H) (hS : va_S A s.heap H locs) (hl : lv_has ls 4 [(0, .ref b), (1, .ref (q 0)), (2, .ref (q 7)), (3, .int (nI i))])
    (kk : ∀ (H : Heap) (locs : List Loc), GS D k q A H → va_S A s.heap H locs → W p l e room_1 s m #[Value.ref b] below meth c H locs 13 2421 Q (F0 m 321 ls [])) : W p l e room_1 s m #[Value.ref b] below meth c H locs 13 2421 Q (F0 m 193 ls []) := by
  obtain ⟨hx, hb, hr, hml, hown, hts, hX, hbl, hlocks, hgv⟩ := C0
  have htw := htw_of hts
  have hN := NW.of hts
  obtain ⟨wk, hm, lg, dt, ld, ct, mk, on, un, sh, lg2, dt2, lo, lf, hP, hD, hI⟩ := hG
  cases on
  · have hP : va_P D classes (cW k q wk hm lg dt ld ct mk false un sh ++ mW k q wk hm lg2 dt2 lo true mk ct lf sh) H := hP
    have hD : va_D A (cW k q wk hm lg dt ld ct mk false un sh ++ mW k q wk hm lg2 dt2 lo true mk ct lf sh) := hD
    refine lv_aload_n hx hb d_law_193 rfl (lv_at hl 1 rfl) ?_
    refine lv_aload_n hx hb d_law_194 rfl (lv_at hl 0 rfl) ?_
    refine lv_iload_n hx hb d_law_195 rfl (lv_at hl 3 rfl) ?_
    refine lv_iconst (v := (nI 1)) hx hb d_law_196 (by decide) ?_
    refine my_iadd hx hb (x := i) (y := 1) d_law_197 ?_
    refine my_sld hx hb hX hbl hbA hS (i := i + 1) (by omega) (by omega) d_law_198 ?_
    refine call_Vi (n := 1) (As := [.int (xs (i + 1))]) (ws' := cW k q wk hm lg dt ld ct mk false un sh ++ mW k q wk hm lg2 dt2 lo true mk ct lf sh) ⟨hx, hb, hml, hown, htw⟩ (c_Log_dirty_off l D k q wk hm lg dt ld ct mk un sh (xs (i + 1))) (in_V tw_92 tw_93 tw_94 tw_9 tw_95) (by decide +kernel) ⟨rfl, rfl, Nat.le_of_ble_eq_true rfl, Nat.le_of_ble_eq_true rfl⟩ hK hN hP hD hS hA [0, 1, 2, 3, 4, 5, 6] [7, 8, 9, 10, 11, 12] [6, 7, 8, 9, 10, 11, 12, 0, 1, 2, 3, 4, 5] rfl rfl ([oM q true mk ct lf sh, aB k (q 8) wk, aB k (q 9) hm, aB k (q 10) lg2, aZ k (q 11) dt2, aZ k (q 12) lo]) rfl rfl (by decide) rfl rfl 0 rfl 0 rfl hl.1 rfl rfl (Nat.le_of_ble_eq_true rfl) d_law_199 ⟨Nat.le_of_ble_eq_true rfl, Nat.le_of_ble_eq_true rfl⟩ (fun H locs hP hD hS => ?_)
    refine lv_aload_n hx hb d_law_202 rfl (lv_at hl 2 rfl) ?_
    refine lv_aload_n hx hb d_law_203 rfl (lv_at hl 0 rfl) ?_
    refine lv_iload_n hx hb d_law_204 rfl (lv_at hl 3 rfl) ?_
    refine lv_iconst (v := (nI 1)) hx hb d_law_205 (by decide) ?_
    refine my_iadd hx hb (x := i) (y := 1) d_law_206 ?_
    refine my_sld hx hb hX hbl hbA hS (i := i + 1) (by omega) (by omega) d_law_207 ?_
    refine call_Vi (n := 1) (As := [.int (xs (i + 1))]) (ws' := cW k q wk hm lg dt ld ct mk false un sh ++ mW k q wk hm lg2 dt2 lo true mk ct lf sh) ⟨hx, hb, hml, hown, htw⟩ (c_Model_dirty_off l D k q wk hm lg2 dt2 lo mk ct lf sh (xs (i + 1))) (in_V tw_201 tw_202 tw_203 tw_11 tw_204) (by decide +kernel) ⟨rfl, rfl, Nat.le_of_ble_eq_true rfl, Nat.le_of_ble_eq_true rfl⟩ hK hN hP hD hS hA [7, 8, 9, 10, 11, 12] [0, 1, 2, 3, 4, 5, 6] [0, 1, 2, 3, 4, 5, 6, 7, 8, 9, 10, 11, 12] rfl rfl ([oL q, oD q ct mk false un sh, aB k (q 2) wk, aB k (q 3) hm, aB k (q 4) lg, aZ k (q 5) dt, aN k (q 6) ld]) rfl rfl (by decide) rfl rfl 2 rfl 7 rfl hl.1 rfl rfl (Nat.le_of_ble_eq_true rfl) d_law_208 ⟨Nat.le_of_ble_eq_true rfl, Nat.le_of_ble_eq_true rfl⟩ (fun H locs hP hD hS => ?_)
    refine lv_icmp_eq (tgt := 321) hx hb d_law_211 (by decide) (fun c_211 => ?_) (fun c_211 => (c_211 rfl).elim)
    have hP : va_P D classes (cW k q wk hm lg dt ld ct mk false un sh ++ mW k q wk hm lg2 dt2 lo true mk ct lf sh) H := hP
    have hD : va_D A (cW k q wk hm lg dt ld ct mk false un sh ++ mW k q wk hm lg2 dt2 lo true mk ct lf sh) := hD
    exact kk _ _ ⟨wk, hm, lg, dt, ld, ct, mk, false, un, sh, lg2, dt2, lo, lf, hP, hD, hI⟩ hS
  · obtain ⟨e1, e2, hcl⟩ := hI.2.2.2.2.2.1 rfl
    have e2 := e2.symm
    subst e1; subst e2
    by_cases hp : blP (xs (i + 1))
    · obtain ⟨x, hx24, e1⟩ := hp
      have hP : va_P D classes (cW k q wk hm lg dt ld ct false true un sh ++ mW k q wk hm lg2 dt lo false false ct lf sh) H := hP
      have hD : va_D A (cW k q wk hm lg dt ld ct false true un sh ++ mW k q wk hm lg2 dt lo false false ct lf sh) := hD
      refine lv_aload_n hx hb d_law_193 rfl (lv_at hl 1 rfl) ?_
      refine lv_aload_n hx hb d_law_194 rfl (lv_at hl 0 rfl) ?_
      refine lv_iload_n hx hb d_law_195 rfl (lv_at hl 3 rfl) ?_
      refine lv_iconst (v := (nI 1)) hx hb d_law_196 (by decide) ?_
      refine my_iadd hx hb (x := i) (y := 1) d_law_197 ?_
      refine my_sld hx hb hX hbl hbA hS (i := i + 1) (by omega) (by omega) d_law_198 ?_
      refine lv_as (y := (nI x)) e1 ?_
      refine call_Vi (n := 1) (As := [.int (nI x)]) (ws' := cW k q wk hm lg dt ld ct false true un sh ++ mW k q wk hm lg2 dt lo false false ct lf sh) ⟨hx, hb, hml, hown, htw⟩ (c_Log_dirty_y l D k q wk hm lg dt ld ct false un sh x hx24) (in_V tw_92 tw_93 tw_94 tw_9 tw_95) (by decide +kernel) ⟨rfl, rfl, Nat.le_of_ble_eq_true rfl, Nat.le_of_ble_eq_true rfl⟩ hK hN hP hD hS hA [0, 1, 2, 3, 4, 5, 6] [7, 8, 9, 10, 11, 12] [6, 7, 8, 9, 10, 11, 12, 0, 1, 2, 3, 4, 5] rfl rfl ([oM q false false ct lf sh, aB k (q 8) wk, aB k (q 9) hm, aB k (q 10) lg2, aZ k (q 11) dt, aZ k (q 12) lo]) rfl rfl (by decide) rfl rfl 0 rfl 0 rfl hl.1 rfl rfl (Nat.le_of_ble_eq_true rfl) d_law_199 ⟨Nat.le_of_ble_eq_true rfl, Nat.le_of_ble_eq_true rfl⟩ (fun H locs hP hD hS => ?_)
      refine lv_aload_n hx hb d_law_202 rfl (lv_at hl 2 rfl) ?_
      refine lv_aload_n hx hb d_law_203 rfl (lv_at hl 0 rfl) ?_
      refine lv_iload_n hx hb d_law_204 rfl (lv_at hl 3 rfl) ?_
      refine lv_iconst (v := (nI 1)) hx hb d_law_205 (by decide) ?_
      refine my_iadd hx hb (x := i) (y := 1) d_law_206 ?_
      refine my_sld hx hb hX hbl hbA hS (i := i + 1) (by omega) (by omega) d_law_207 ?_
      refine lv_as (y := (nI x)) e1 ?_
      refine call_Vi (n := 1) (As := [.int (nI x)]) (ws' := cW k q wk hm lg dt ld ct false true un sh ++ mW k q wk hm lg2 dt lo false false ct lf sh) ⟨hx, hb, hml, hown, htw⟩ (c_Model_dirty_y l D k q wk hm lg2 dt lo false ct lf sh x hx24) (in_V tw_201 tw_202 tw_203 tw_11 tw_204) (by decide +kernel) ⟨rfl, rfl, Nat.le_of_ble_eq_true rfl, Nat.le_of_ble_eq_true rfl⟩ hK hN hP hD hS hA [7, 8, 9, 10, 11, 12] [0, 1, 2, 3, 4, 5, 6] [0, 1, 2, 3, 4, 5, 6, 7, 8, 9, 10, 11, 12] rfl rfl ([oL q, oD q ct false true un sh, aB k (q 2) wk, aB k (q 3) hm, aB k (q 4) lg, aZ k (q 5) dt, aN k (q 6) ld]) rfl rfl (by decide) rfl rfl 2 rfl 7 rfl hl.1 rfl rfl (Nat.le_of_ble_eq_true rfl) d_law_208 ⟨Nat.le_of_ble_eq_true rfl, Nat.le_of_ble_eq_true rfl⟩ (fun H locs hP hD hS => ?_)
      refine lv_icmp_eq (tgt := 321) hx hb d_law_211 (by decide) (fun c_211 => ?_) (fun c_211 => (c_211 rfl).elim)
      have hP : va_P D classes (cW k q wk hm lg dt ld ct false true un sh ++ mW k q wk hm lg2 dt lo false false ct lf sh) H := hP
      have hD : va_D A (cW k q wk hm lg dt ld ct false true un sh ++ mW k q wk hm lg2 dt lo false false ct lf sh) := hD
      exact kk _ _ ⟨wk, hm, lg, dt, ld, ct, false, true, un, sh, lg2, dt, lo, lf, hP, hD, hI⟩ hS
    · have hP : va_P D classes (cW k q wk hm lg dt ld ct false true un sh ++ mW k q wk hm lg2 dt lo false false ct lf sh) H := hP
      have hD : va_D A (cW k q wk hm lg dt ld ct false true un sh ++ mW k q wk hm lg2 dt lo false false ct lf sh) := hD
      refine lv_aload_n hx hb d_law_193 rfl (lv_at hl 1 rfl) ?_
      refine lv_aload_n hx hb d_law_194 rfl (lv_at hl 0 rfl) ?_
      refine lv_iload_n hx hb d_law_195 rfl (lv_at hl 3 rfl) ?_
      refine lv_iconst (v := (nI 1)) hx hb d_law_196 (by decide) ?_
      refine my_iadd hx hb (x := i) (y := 1) d_law_197 ?_
      refine my_sld hx hb hX hbl hbA hS (i := i + 1) (by omega) (by omega) d_law_198 ?_
      refine call_Vi (n := 1) (As := [.int (xs (i + 1))]) (ws' := cW k q wk hm lg dt ld ct false true un sh ++ mW k q wk hm lg2 dt lo false false ct lf sh) ⟨hx, hb, hml, hown, htw⟩ (c_Log_dirty_n l D k q wk hm lg dt ld ct false un sh (xs (i + 1)) hp) (in_V tw_92 tw_93 tw_94 tw_9 tw_95) (by decide +kernel) ⟨rfl, rfl, Nat.le_of_ble_eq_true rfl, Nat.le_of_ble_eq_true rfl⟩ hK hN hP hD hS hA [0, 1, 2, 3, 4, 5, 6] [7, 8, 9, 10, 11, 12] [6, 7, 8, 9, 10, 11, 12, 0, 1, 2, 3, 4, 5] rfl rfl ([oM q false false ct lf sh, aB k (q 8) wk, aB k (q 9) hm, aB k (q 10) lg2, aZ k (q 11) dt, aZ k (q 12) lo]) rfl rfl (by decide) rfl rfl 0 rfl 0 rfl hl.1 rfl rfl (Nat.le_of_ble_eq_true rfl) d_law_199 ⟨Nat.le_of_ble_eq_true rfl, Nat.le_of_ble_eq_true rfl⟩ (fun H locs hP hD hS => ?_)
      refine lv_aload_n hx hb d_law_202 rfl (lv_at hl 2 rfl) ?_
      refine lv_aload_n hx hb d_law_203 rfl (lv_at hl 0 rfl) ?_
      refine lv_iload_n hx hb d_law_204 rfl (lv_at hl 3 rfl) ?_
      refine lv_iconst (v := (nI 1)) hx hb d_law_205 (by decide) ?_
      refine my_iadd hx hb (x := i) (y := 1) d_law_206 ?_
      refine my_sld hx hb hX hbl hbA hS (i := i + 1) (by omega) (by omega) d_law_207 ?_
      refine call_Vi (n := 1) (As := [.int (xs (i + 1))]) (ws' := cW k q wk hm lg dt ld ct false true un sh ++ mW k q wk hm lg2 dt lo false false ct lf sh) ⟨hx, hb, hml, hown, htw⟩ (c_Model_dirty_n l D k q wk hm lg2 dt lo false ct lf sh (xs (i + 1)) hp) (in_V tw_201 tw_202 tw_203 tw_11 tw_204) (by decide +kernel) ⟨rfl, rfl, Nat.le_of_ble_eq_true rfl, Nat.le_of_ble_eq_true rfl⟩ hK hN hP hD hS hA [7, 8, 9, 10, 11, 12] [0, 1, 2, 3, 4, 5, 6] [0, 1, 2, 3, 4, 5, 6, 7, 8, 9, 10, 11, 12] rfl rfl ([oL q, oD q ct false true un sh, aB k (q 2) wk, aB k (q 3) hm, aB k (q 4) lg, aZ k (q 5) dt, aN k (q 6) ld]) rfl rfl (by decide) rfl rfl 2 rfl 7 rfl hl.1 rfl rfl (Nat.le_of_ble_eq_true rfl) d_law_208 ⟨Nat.le_of_ble_eq_true rfl, Nat.le_of_ble_eq_true rfl⟩ (fun H locs hP hD hS => ?_)
      refine lv_icmp_eq (tgt := 321) hx hb d_law_211 (by decide) (fun c_211 => ?_) (fun c_211 => (c_211 rfl).elim)
      have hP : va_P D classes (cW k q wk hm lg dt ld ct false true un sh ++ mW k q wk hm lg2 dt lo false false ct lf sh) H := hP
      have hD : va_D A (cW k q wk hm lg dt ld ct false true un sh ++ mW k q wk hm lg2 dt lo false false ct lf sh) := hD
      exact kk _ _ ⟨wk, hm, lg, dt, ld, ct, false, true, un, sh, lg2, dt, lo, lf, hP, hD, hI⟩ hS
set_option maxHeartbeats 4000000 in
set_option maxRecDepth 100000 in
theorem op_216 {p : Program} {l : Launch} {e : Env} {s : State} {m : MethodId} {below : List Frame} {meth : Method} {c : Code} {Q : State → Prop} {b L : Nat} {xs : Nat → Int32} {D : va_G} {k : Nat → ClassId} {q : Nat → Nat} {A : Nat → Prop} {i : Nat} {ls : Array Slot} {H : Heap} {locs : List Loc} (hL : L ≤ 2048) (C0 : lw_At p s m meth c b L xs) (hA : ∀ q, s.heap.size ≤ q → A q) (hbA : ¬ A b) (hi : i + 4 ≤ L) (hK : va_K D classes (tyK k) s) (hG : GS D k q A H) (hS : va_S A s.heap H locs) (hl : lv_has ls 4 [(0, .ref b), (1, .ref (q 0)), (2, .ref (q 7)), (3, .int (nI i))])
    (kk : ∀ (H : Heap) (locs : List Loc), GS D k q A H → va_S A s.heap H locs → W p l e room_1 s m #[Value.ref b] below meth c H locs 13 2421 Q (F0 m 321 ls [])) : W p l e room_1 s m #[Value.ref b] below meth c H locs 13 2421 Q (F0 m 216 ls []) := by
  obtain ⟨hx, hb, hr, hml, hown, hts, hX, hbl, hlocks, hgv⟩ := C0
  have htw := htw_of hts
  have hN := NW.of hts
  obtain ⟨wk, hm, lg, dt, ld, ct, mk, on, un, sh, lg2, dt2, lo, lf, hP, hD, hI⟩ := hG
  cases on
  · have hP : va_P D classes (cW k q wk hm lg dt ld ct mk false un sh ++ mW k q wk hm lg2 dt2 lo true mk ct lf sh) H := hP
    have hD : va_D A (cW k q wk hm lg dt ld ct mk false un sh ++ mW k q wk hm lg2 dt2 lo true mk ct lf sh) := hD
    refine lv_aload_n hx hb d_law_216 rfl (lv_at hl 1 rfl) ?_
    refine call_Vi (n := 0) (As := []) (ws' := cW k q wk hm lg dt ld ct mk false un sh ++ mW k q wk hm lg2 dt2 lo true mk ct lf sh) ⟨hx, hb, hml, hown, htw⟩ (c_Log_commit_off l D k q wk hm lg dt ld ct mk un sh) (in_V tw_96 tw_97 tw_98 tw_9 tw_99) (by decide +kernel) ⟨rfl, rfl, Nat.le_of_ble_eq_true rfl, Nat.le_of_ble_eq_true rfl⟩ hK hN hP hD hS hA [0, 1, 2, 3, 4, 5, 6] [7, 8, 9, 10, 11, 12] [6, 7, 8, 9, 10, 11, 12, 0, 1, 2, 3, 4, 5] rfl rfl ([oM q true mk ct lf sh, aB k (q 8) wk, aB k (q 9) hm, aB k (q 10) lg2, aZ k (q 11) dt2, aZ k (q 12) lo]) rfl rfl (by decide) rfl rfl 0 rfl 0 rfl hl.1 rfl rfl (Nat.le_of_ble_eq_true rfl) d_law_217 ⟨Nat.le_of_ble_eq_true rfl, Nat.le_of_ble_eq_true rfl⟩ (fun H locs hP hD hS => ?_)
    refine lv_aload_n hx hb d_law_220 rfl (lv_at hl 2 rfl) ?_
    refine call_Vi (n := 0) (As := []) (ws' := cW k q wk hm lg dt ld ct mk false un sh ++ mW k q wk hm lg2 dt2 lo true mk ct lf sh) ⟨hx, hb, hml, hown, htw⟩ (c_Model_commit_off l D k q wk hm lg2 dt2 lo mk ct lf sh) (in_V tw_205 tw_206 tw_207 tw_11 tw_208) (by decide +kernel) ⟨rfl, rfl, Nat.le_of_ble_eq_true rfl, Nat.le_of_ble_eq_true rfl⟩ hK hN hP hD hS hA [7, 8, 9, 10, 11, 12] [0, 1, 2, 3, 4, 5, 6] [0, 1, 2, 3, 4, 5, 6, 7, 8, 9, 10, 11, 12] rfl rfl ([oL q, oD q ct mk false un sh, aB k (q 2) wk, aB k (q 3) hm, aB k (q 4) lg, aZ k (q 5) dt, aN k (q 6) ld]) rfl rfl (by decide) rfl rfl 2 rfl 7 rfl hl.1 rfl rfl (Nat.le_of_ble_eq_true rfl) d_law_221 ⟨Nat.le_of_ble_eq_true rfl, Nat.le_of_ble_eq_true rfl⟩ (fun H locs hP hD hS => ?_)
    refine lv_icmp_eq (tgt := 321) hx hb d_law_224 (by decide) (fun c_224 => ?_) (fun c_224 => (c_224 rfl).elim)
    have hP : va_P D classes (cW k q wk hm lg dt ld ct mk false un sh ++ mW k q wk hm lg2 dt2 lo true mk ct lf sh) H := hP
    have hD : va_D A (cW k q wk hm lg dt ld ct mk false un sh ++ mW k q wk hm lg2 dt2 lo true mk ct lf sh) := hD
    exact kk _ _ ⟨wk, hm, lg, dt, ld, ct, mk, false, un, sh, lg2, dt2, lo, lf, hP, hD, hI⟩ hS
  · obtain ⟨e1, e2, hcl⟩ := hI.2.2.2.2.2.1 rfl
    have e2 := e2.symm
    subst e1; subst e2
    rcases hI.1 with ⟨u1, u2, u3⟩ | ⟨u1, u2⟩
    · subst u3
      rcases (show 1 = un ∨ 2 ≤ un by omega) with hun | hun
      · subst hun
        rcases (show sh < 500 ∨ 500 ≤ sh by omega) with hsh | hsh
        · have hP : va_P D classes (cW k q wk hm lg dt ld ct false true 1 sh ++ mW k q wk hm lg2 dt lo false false ct (nI 1) sh) H := hP
          have hD : va_D A (cW k q wk hm lg dt ld ct false true 1 sh ++ mW k q wk hm lg2 dt lo false false ct (nI 1) sh) := hD
          refine lv_aload_n hx hb d_law_216 rfl (lv_at hl 1 rfl) ?_
          refine call_Vi (n := 0) (As := []) (ws' := cW k q wk hm (lgN wk (fl dt ld 24) lg ((cnt dt 24 * sh) / 500)) dt (fl dt ld 24) (cnt dt 24) false false 0 sh ++ mW k q wk hm lg2 dt lo false false ct (nI 1) sh) ⟨hx, hb, hml, hown, htw⟩ (c_Log_commit_A l D k q wk hm lg dt ld ct false sh hsh) (in_V tw_96 tw_97 tw_98 tw_9 tw_99) (by decide +kernel) ⟨rfl, rfl, Nat.le_of_ble_eq_true rfl, Nat.le_of_ble_eq_true rfl⟩ hK hN hP hD hS hA [0, 1, 2, 3, 4, 5, 6] [7, 8, 9, 10, 11, 12] [6, 7, 8, 9, 10, 11, 12, 0, 1, 2, 3, 4, 5] rfl rfl ([oM q false false ct (nI 1) sh, aB k (q 8) wk, aB k (q 9) hm, aB k (q 10) lg2, aZ k (q 11) dt, aZ k (q 12) lo]) rfl rfl (by decide) rfl rfl 0 rfl 0 rfl hl.1 rfl rfl (Nat.le_of_ble_eq_true rfl) d_law_217 ⟨Nat.le_of_ble_eq_true rfl, Nat.le_of_ble_eq_true rfl⟩ (fun H locs hP hD hS => ?_)
          refine lv_aload_n hx hb d_law_220 rfl (lv_at hl 2 rfl) ?_
          refine call_Vi (n := 0) (As := []) (ws' := cW k q wk hm (lgN wk (fl dt ld 24) lg ((cnt dt 24 * sh) / 500)) dt (fl dt ld 24) (cnt dt 24) false false 0 sh ++ mW k q wk hm lg2 dt lo true false (cnt dt 24) (nI 0) sh) ⟨hx, hb, hml, hown, htw⟩ (c_Model_commit_A l D k q wk hm lg2 dt lo false ct sh hsh) (in_V tw_205 tw_206 tw_207 tw_11 tw_208) (by decide +kernel) ⟨rfl, rfl, Nat.le_of_ble_eq_true rfl, Nat.le_of_ble_eq_true rfl⟩ hK hN hP hD hS hA [7, 8, 9, 10, 11, 12] [0, 1, 2, 3, 4, 5, 6] [0, 1, 2, 3, 4, 5, 6, 7, 8, 9, 10, 11, 12] rfl rfl ([oL q, oD q (cnt dt 24) false false 0 sh, aB k (q 2) wk, aB k (q 3) hm, aB k (q 4) (lgN wk (fl dt ld 24) lg ((cnt dt 24 * sh) / 500)), aZ k (q 5) dt, aN k (q 6) (fl dt ld 24)]) rfl rfl (by decide) rfl rfl 2 rfl 7 rfl hl.1 rfl rfl (Nat.le_of_ble_eq_true rfl) d_law_221 ⟨Nat.le_of_ble_eq_true rfl, Nat.le_of_ble_eq_true rfl⟩ (fun H locs hP hD hS => ?_)
          refine lv_icmp_eq (tgt := 321) hx hb d_law_224 (by decide) (fun c_224 => ?_) (fun c_224 => (c_224 rfl).elim)
          have hP : va_P D classes (cW k q wk hm (lgN wk (fl dt ld 24) lg ((cnt dt 24 * sh) / 500)) dt (fl dt ld 24) (cnt dt 24) false false 0 sh ++ mW k q wk hm lg2 dt lo true false (cnt dt 24) (nI 0) sh) H := hP
          have hD : va_D A (cW k q wk hm (lgN wk (fl dt ld 24) lg ((cnt dt 24 * sh) / 500)) dt (fl dt ld 24) (cnt dt 24) false false 0 sh ++ mW k q wk hm lg2 dt lo true false (cnt dt 24) (nI 0) sh) := hD
          exact kk _ _ ⟨wk, hm, lgN wk (fl dt ld 24) lg ((cnt dt 24 * sh) / 500), dt, fl dt ld 24, cnt dt 24, false, false, 0, sh, lg2, dt, lo, nI 0, hP, hD, IV_A _ hI⟩ hS
        · have hP : va_P D classes (cW k q wk hm lg dt ld ct false true 1 sh ++ mW k q wk hm lg2 dt lo false false ct (nI 1) sh) H := hP
          have hD : va_D A (cW k q wk hm lg dt ld ct false true 1 sh ++ mW k q wk hm lg2 dt lo false false ct (nI 1) sh) := hD
          refine lv_aload_n hx hb d_law_216 rfl (lv_at hl 1 rfl) ?_
          refine call_Vi (n := 0) (As := []) (ws' := cW k q wk (hmN (lgN wk (fl dt ld 24) lg (cnt dt 24)) (fl dt ld 24) hm ((cnt dt 24 * (sh - 500)) / 500)) (lgN wk (fl dt ld 24) lg (cnt dt 24)) dt (fl dt ld 24) (cnt dt 24) true false 0 sh ++ mW k q wk hm lg2 dt lo false false ct (nI 1) sh) ⟨hx, hb, hml, hown, htw⟩ (c_Log_commit_B l D k q wk hm lg dt ld ct false sh hsh hI.2.1) (in_V tw_96 tw_97 tw_98 tw_9 tw_99) (by decide +kernel) ⟨rfl, rfl, Nat.le_of_ble_eq_true rfl, Nat.le_of_ble_eq_true rfl⟩ hK hN hP hD hS hA [0, 1, 2, 3, 4, 5, 6] [7, 8, 9, 10, 11, 12] [6, 7, 8, 9, 10, 11, 12, 0, 1, 2, 3, 4, 5] rfl rfl ([oM q false false ct (nI 1) sh, aB k (q 8) wk, aB k (q 9) hm, aB k (q 10) lg2, aZ k (q 11) dt, aZ k (q 12) lo]) rfl rfl (by decide) rfl rfl 0 rfl 0 rfl hl.1 rfl rfl (Nat.le_of_ble_eq_true rfl) d_law_217 ⟨Nat.le_of_ble_eq_true rfl, Nat.le_of_ble_eq_true rfl⟩ (fun H locs hP hD hS => ?_)
          refine lv_aload_n hx hb d_law_220 rfl (lv_at hl 2 rfl) ?_
          refine call_Vi (n := 0) (As := []) (ws' := cW k q wk (hmN (lgN wk (fl dt ld 24) lg (cnt dt 24)) (fl dt ld 24) hm ((cnt dt 24 * (sh - 500)) / 500)) (lgN wk (fl dt ld 24) lg (cnt dt 24)) dt (fl dt ld 24) (cnt dt 24) true false 0 sh ++ mW k q wk (layN 24 (cpL 24 dt lo) ((cnt dt 24 * (sh - 500)) / 500) (cpD 24 dt wk lg2) hm) (cpD 24 dt wk lg2) (clr 24 dt) (cpL 24 dt lo) true true (cnt dt 24) (nI 0) sh) ⟨hx, hb, hml, hown, htw⟩ (c_Model_commit_B l D k q wk hm lg2 dt lo false ct sh hsh hI.2.1) (in_V tw_205 tw_206 tw_207 tw_11 tw_208) (by decide +kernel) ⟨rfl, rfl, Nat.le_of_ble_eq_true rfl, Nat.le_of_ble_eq_true rfl⟩ hK hN hP hD hS hA [7, 8, 9, 10, 11, 12] [0, 1, 2, 3, 4, 5, 6] [0, 1, 2, 3, 4, 5, 6, 7, 8, 9, 10, 11, 12] rfl rfl ([oL q, oD q (cnt dt 24) true false 0 sh, aB k (q 2) wk, aB k (q 3) (hmN (lgN wk (fl dt ld 24) lg (cnt dt 24)) (fl dt ld 24) hm ((cnt dt 24 * (sh - 500)) / 500)), aB k (q 4) (lgN wk (fl dt ld 24) lg (cnt dt 24)), aZ k (q 5) dt, aN k (q 6) (fl dt ld 24)]) rfl rfl (by decide) rfl rfl 2 rfl 7 rfl hl.1 rfl rfl (Nat.le_of_ble_eq_true rfl) d_law_221 ⟨Nat.le_of_ble_eq_true rfl, Nat.le_of_ble_eq_true rfl⟩ (fun H locs hP hD hS => ?_)
          refine lv_icmp_eq (tgt := 321) hx hb d_law_224 (by decide) (fun c_224 => ?_) (fun c_224 => (c_224 rfl).elim)
          have hP : va_P D classes (cW k q wk (hmN (lgN wk (fl dt ld 24) lg (cnt dt 24)) (fl dt ld 24) hm ((cnt dt 24 * (sh - 500)) / 500)) (lgN wk (fl dt ld 24) lg (cnt dt 24)) dt (fl dt ld 24) (cnt dt 24) true false 0 sh ++ mW k q wk (layN 24 (cpL 24 dt lo) ((cnt dt 24 * (sh - 500)) / 500) (cpD 24 dt wk lg2) hm) (cpD 24 dt wk lg2) (clr 24 dt) (cpL 24 dt lo) true true (cnt dt 24) (nI 0) sh) H := hP
          have hD : va_D A (cW k q wk (hmN (lgN wk (fl dt ld 24) lg (cnt dt 24)) (fl dt ld 24) hm ((cnt dt 24 * (sh - 500)) / 500)) (lgN wk (fl dt ld 24) lg (cnt dt 24)) dt (fl dt ld 24) (cnt dt 24) true false 0 sh ++ mW k q wk (layN 24 (cpL 24 dt lo) ((cnt dt 24 * (sh - 500)) / 500) (cpD 24 dt wk lg2) hm) (cpD 24 dt wk lg2) (clr 24 dt) (cpL 24 dt lo) true true (cnt dt 24) (nI 0) sh) := hD
          rw [hmN_lay (EN_commit dt lo ld wk lg lg2) hm (div_b (by have := hI.2.1; omega))] at hP hD
          have hP : va_P D classes (cW k q wk (layN 24 (cpL 24 dt lo) ((cnt dt 24 * (sh - 500)) / 500) (cpD 24 dt wk lg2) hm) (lgN wk (fl dt ld 24) lg (cnt dt 24)) dt (fl dt ld 24) (cnt dt 24) true false 0 sh ++ mW k q wk (layN 24 (cpL 24 dt lo) ((cnt dt 24 * (sh - 500)) / 500) (cpD 24 dt wk lg2) hm) (cpD 24 dt wk lg2) (clr 24 dt) (cpL 24 dt lo) true true (cnt dt 24) (nI 0) sh) H := hP
          have hD : va_D A (cW k q wk (layN 24 (cpL 24 dt lo) ((cnt dt 24 * (sh - 500)) / 500) (cpD 24 dt wk lg2) hm) (lgN wk (fl dt ld 24) lg (cnt dt 24)) dt (fl dt ld 24) (cnt dt 24) true false 0 sh ++ mW k q wk (layN 24 (cpL 24 dt lo) ((cnt dt 24 * (sh - 500)) / 500) (cpD 24 dt wk lg2) hm) (cpD 24 dt wk lg2) (clr 24 dt) (cpL 24 dt lo) true true (cnt dt 24) (nI 0) sh) := hD
          exact kk _ _ ⟨wk, layN 24 (cpL 24 dt lo) ((cnt dt 24 * (sh - 500)) / 500) (cpD 24 dt wk lg2) hm, lgN wk (fl dt ld 24) lg (cnt dt 24), dt, fl dt ld 24, cnt dt 24, true, false, 0, sh, cpD 24 dt wk lg2, clr 24 dt, cpL 24 dt lo, nI 0, hP, hD, IV_B _ hI⟩ hS
      · have hP : va_P D classes (cW k q wk hm lg dt ld ct false true un sh ++ mW k q wk hm lg2 dt lo false false ct (nI un) sh) H := hP
        have hD : va_D A (cW k q wk hm lg dt ld ct false true un sh ++ mW k q wk hm lg2 dt lo false false ct (nI un) sh) := hD
        refine lv_aload_n hx hb d_law_216 rfl (lv_at hl 1 rfl) ?_
        refine call_Vi (n := 0) (As := []) (ws' := cW k q wk (hmN (lgN wk (fl dt ld 24) lg (cnt dt 24)) (fl dt ld 24) hm (cnt dt 24)) (lgN wk (fl dt ld 24) lg (cnt dt 24)) (dcl (fl dt ld 24) dt (cnt dt 24)) (fl dt ld 24) (cnt dt 24) false true (un - 1) sh ++ mW k q wk hm lg2 dt lo false false ct (nI un) sh) ⟨hx, hb, hml, hown, htw⟩ (c_Log_commit_E l D k q wk hm lg dt ld ct false un sh hun u2) (in_V tw_96 tw_97 tw_98 tw_9 tw_99) (by decide +kernel) ⟨rfl, rfl, Nat.le_of_ble_eq_true rfl, Nat.le_of_ble_eq_true rfl⟩ hK hN hP hD hS hA [0, 1, 2, 3, 4, 5, 6] [7, 8, 9, 10, 11, 12] [6, 7, 8, 9, 10, 11, 12, 0, 1, 2, 3, 4, 5] rfl rfl ([oM q false false ct (nI un) sh, aB k (q 8) wk, aB k (q 9) hm, aB k (q 10) lg2, aZ k (q 11) dt, aZ k (q 12) lo]) rfl rfl (by decide) rfl rfl 0 rfl 0 rfl hl.1 rfl rfl (Nat.le_of_ble_eq_true rfl) d_law_217 ⟨Nat.le_of_ble_eq_true rfl, Nat.le_of_ble_eq_true rfl⟩ (fun H locs hP hD hS => ?_)
        refine lv_aload_n hx hb d_law_220 rfl (lv_at hl 2 rfl) ?_
        refine call_Vi (n := 0) (As := []) (ws' := cW k q wk (hmN (lgN wk (fl dt ld 24) lg (cnt dt 24)) (fl dt ld 24) hm (cnt dt 24)) (lgN wk (fl dt ld 24) lg (cnt dt 24)) (dcl (fl dt ld 24) dt (cnt dt 24)) (fl dt ld 24) (cnt dt 24) false true (un - 1) sh ++ mW k q wk (layN 24 (cpL 24 dt lo) (cnt dt 24) (cpD 24 dt wk lg2) hm) (cpD 24 dt wk lg2) (clr 24 dt) (cpL 24 dt lo) false false (cnt dt 24) (nI (un - 1)) sh) ⟨hx, hb, hml, hown, htw⟩ (c_Model_commit_E l D k q wk hm lg2 dt lo false ct sh un hun u2) (in_V tw_205 tw_206 tw_207 tw_11 tw_208) (by decide +kernel) ⟨rfl, rfl, Nat.le_of_ble_eq_true rfl, Nat.le_of_ble_eq_true rfl⟩ hK hN hP hD hS hA [7, 8, 9, 10, 11, 12] [0, 1, 2, 3, 4, 5, 6] [0, 1, 2, 3, 4, 5, 6, 7, 8, 9, 10, 11, 12] rfl rfl ([oL q, oD q (cnt dt 24) false true (un - 1) sh, aB k (q 2) wk, aB k (q 3) (hmN (lgN wk (fl dt ld 24) lg (cnt dt 24)) (fl dt ld 24) hm (cnt dt 24)), aB k (q 4) (lgN wk (fl dt ld 24) lg (cnt dt 24)), aZ k (q 5) (dcl (fl dt ld 24) dt (cnt dt 24)), aN k (q 6) (fl dt ld 24)]) rfl rfl (by decide) rfl rfl 2 rfl 7 rfl hl.1 rfl rfl (Nat.le_of_ble_eq_true rfl) d_law_221 ⟨Nat.le_of_ble_eq_true rfl, Nat.le_of_ble_eq_true rfl⟩ (fun H locs hP hD hS => ?_)
        refine lv_icmp_eq (tgt := 321) hx hb d_law_224 (by decide) (fun c_224 => ?_) (fun c_224 => (c_224 rfl).elim)
        have hP : va_P D classes (cW k q wk (hmN (lgN wk (fl dt ld 24) lg (cnt dt 24)) (fl dt ld 24) hm (cnt dt 24)) (lgN wk (fl dt ld 24) lg (cnt dt 24)) (dcl (fl dt ld 24) dt (cnt dt 24)) (fl dt ld 24) (cnt dt 24) false true (un - 1) sh ++ mW k q wk (layN 24 (cpL 24 dt lo) (cnt dt 24) (cpD 24 dt wk lg2) hm) (cpD 24 dt wk lg2) (clr 24 dt) (cpL 24 dt lo) false false (cnt dt 24) (nI (un - 1)) sh) H := hP
        have hD : va_D A (cW k q wk (hmN (lgN wk (fl dt ld 24) lg (cnt dt 24)) (fl dt ld 24) hm (cnt dt 24)) (lgN wk (fl dt ld 24) lg (cnt dt 24)) (dcl (fl dt ld 24) dt (cnt dt 24)) (fl dt ld 24) (cnt dt 24) false true (un - 1) sh ++ mW k q wk (layN 24 (cpL 24 dt lo) (cnt dt 24) (cpD 24 dt wk lg2) hm) (cpD 24 dt wk lg2) (clr 24 dt) (cpL 24 dt lo) false false (cnt dt 24) (nI (un - 1)) sh) := hD
        rw [hmN_lay (EN_commit dt lo ld wk lg lg2) hm (Nat.le_refl _), dcl_clr] at hP hD
        have hP : va_P D classes (cW k q wk (layN 24 (cpL 24 dt lo) (cnt dt 24) (cpD 24 dt wk lg2) hm) (lgN wk (fl dt ld 24) lg (cnt dt 24)) (clr 24 dt) (fl dt ld 24) (cnt dt 24) false true (un - 1) sh ++ mW k q wk (layN 24 (cpL 24 dt lo) (cnt dt 24) (cpD 24 dt wk lg2) hm) (cpD 24 dt wk lg2) (clr 24 dt) (cpL 24 dt lo) false false (cnt dt 24) (nI (un - 1)) sh) H := hP
        have hD : va_D A (cW k q wk (layN 24 (cpL 24 dt lo) (cnt dt 24) (cpD 24 dt wk lg2) hm) (lgN wk (fl dt ld 24) lg (cnt dt 24)) (clr 24 dt) (fl dt ld 24) (cnt dt 24) false true (un - 1) sh ++ mW k q wk (layN 24 (cpL 24 dt lo) (cnt dt 24) (cpD 24 dt wk lg2) hm) (cpD 24 dt wk lg2) (clr 24 dt) (cpL 24 dt lo) false false (cnt dt 24) (nI (un - 1)) sh) := hD
        exact kk _ _ ⟨wk, layN 24 (cpL 24 dt lo) (cnt dt 24) (cpD 24 dt wk lg2) hm, lgN wk (fl dt ld 24) lg (cnt dt 24), clr 24 dt, fl dt ld 24, cnt dt 24, false, true, un - 1, sh, cpD 24 dt wk lg2, clr 24 dt, cpL 24 dt lo, nI (un - 1), hP, hD, IV_C (Or.inl ⟨by omega, by omega, rfl⟩) hI⟩ hS
    · subst u1
      have hP : va_P D classes (cW k q wk hm lg dt ld ct false true 0 sh ++ mW k q wk hm lg2 dt lo false false ct lf sh) H := hP
      have hD : va_D A (cW k q wk hm lg dt ld ct false true 0 sh ++ mW k q wk hm lg2 dt lo false false ct lf sh) := hD
      refine lv_aload_n hx hb d_law_216 rfl (lv_at hl 1 rfl) ?_
      refine call_Vi (n := 0) (As := []) (ws' := cW k q wk (hmN (lgN wk (fl dt ld 24) lg (cnt dt 24)) (fl dt ld 24) hm (cnt dt 24)) (lgN wk (fl dt ld 24) lg (cnt dt 24)) (dcl (fl dt ld 24) dt (cnt dt 24)) (fl dt ld 24) (cnt dt 24) false true 0 sh ++ mW k q wk hm lg2 dt lo false false ct lf sh) ⟨hx, hb, hml, hown, htw⟩ (c_Log_commit_C l D k q wk hm lg dt ld ct false sh ) (in_V tw_96 tw_97 tw_98 tw_9 tw_99) (by decide +kernel) ⟨rfl, rfl, Nat.le_of_ble_eq_true rfl, Nat.le_of_ble_eq_true rfl⟩ hK hN hP hD hS hA [0, 1, 2, 3, 4, 5, 6] [7, 8, 9, 10, 11, 12] [6, 7, 8, 9, 10, 11, 12, 0, 1, 2, 3, 4, 5] rfl rfl ([oM q false false ct lf sh, aB k (q 8) wk, aB k (q 9) hm, aB k (q 10) lg2, aZ k (q 11) dt, aZ k (q 12) lo]) rfl rfl (by decide) rfl rfl 0 rfl 0 rfl hl.1 rfl rfl (Nat.le_of_ble_eq_true rfl) d_law_217 ⟨Nat.le_of_ble_eq_true rfl, Nat.le_of_ble_eq_true rfl⟩ (fun H locs hP hD hS => ?_)
      refine lv_aload_n hx hb d_law_220 rfl (lv_at hl 2 rfl) ?_
      refine call_Vi (n := 0) (As := []) (ws' := cW k q wk (hmN (lgN wk (fl dt ld 24) lg (cnt dt 24)) (fl dt ld 24) hm (cnt dt 24)) (lgN wk (fl dt ld 24) lg (cnt dt 24)) (dcl (fl dt ld 24) dt (cnt dt 24)) (fl dt ld 24) (cnt dt 24) false true 0 sh ++ mW k q wk (layN 24 (cpL 24 dt lo) (cnt dt 24) (cpD 24 dt wk lg2) hm) (cpD 24 dt wk lg2) (clr 24 dt) (cpL 24 dt lo) false false (cnt dt 24) (-1) sh) ⟨hx, hb, hml, hown, htw⟩ (c_Model_commit_C l D k q wk hm lg2 dt lo false ct lf sh u2) (in_V tw_205 tw_206 tw_207 tw_11 tw_208) (by decide +kernel) ⟨rfl, rfl, Nat.le_of_ble_eq_true rfl, Nat.le_of_ble_eq_true rfl⟩ hK hN hP hD hS hA [7, 8, 9, 10, 11, 12] [0, 1, 2, 3, 4, 5, 6] [0, 1, 2, 3, 4, 5, 6, 7, 8, 9, 10, 11, 12] rfl rfl ([oL q, oD q (cnt dt 24) false true 0 sh, aB k (q 2) wk, aB k (q 3) (hmN (lgN wk (fl dt ld 24) lg (cnt dt 24)) (fl dt ld 24) hm (cnt dt 24)), aB k (q 4) (lgN wk (fl dt ld 24) lg (cnt dt 24)), aZ k (q 5) (dcl (fl dt ld 24) dt (cnt dt 24)), aN k (q 6) (fl dt ld 24)]) rfl rfl (by decide) rfl rfl 2 rfl 7 rfl hl.1 rfl rfl (Nat.le_of_ble_eq_true rfl) d_law_221 ⟨Nat.le_of_ble_eq_true rfl, Nat.le_of_ble_eq_true rfl⟩ (fun H locs hP hD hS => ?_)
      refine lv_icmp_eq (tgt := 321) hx hb d_law_224 (by decide) (fun c_224 => ?_) (fun c_224 => (c_224 rfl).elim)
      have hP : va_P D classes (cW k q wk (hmN (lgN wk (fl dt ld 24) lg (cnt dt 24)) (fl dt ld 24) hm (cnt dt 24)) (lgN wk (fl dt ld 24) lg (cnt dt 24)) (dcl (fl dt ld 24) dt (cnt dt 24)) (fl dt ld 24) (cnt dt 24) false true 0 sh ++ mW k q wk (layN 24 (cpL 24 dt lo) (cnt dt 24) (cpD 24 dt wk lg2) hm) (cpD 24 dt wk lg2) (clr 24 dt) (cpL 24 dt lo) false false (cnt dt 24) (-1) sh) H := hP
      have hD : va_D A (cW k q wk (hmN (lgN wk (fl dt ld 24) lg (cnt dt 24)) (fl dt ld 24) hm (cnt dt 24)) (lgN wk (fl dt ld 24) lg (cnt dt 24)) (dcl (fl dt ld 24) dt (cnt dt 24)) (fl dt ld 24) (cnt dt 24) false true 0 sh ++ mW k q wk (layN 24 (cpL 24 dt lo) (cnt dt 24) (cpD 24 dt wk lg2) hm) (cpD 24 dt wk lg2) (clr 24 dt) (cpL 24 dt lo) false false (cnt dt 24) (-1) sh) := hD
      rw [hmN_lay (EN_commit dt lo ld wk lg lg2) hm (Nat.le_refl _), dcl_clr] at hP hD
      have hP : va_P D classes (cW k q wk (layN 24 (cpL 24 dt lo) (cnt dt 24) (cpD 24 dt wk lg2) hm) (lgN wk (fl dt ld 24) lg (cnt dt 24)) (clr 24 dt) (fl dt ld 24) (cnt dt 24) false true 0 sh ++ mW k q wk (layN 24 (cpL 24 dt lo) (cnt dt 24) (cpD 24 dt wk lg2) hm) (cpD 24 dt wk lg2) (clr 24 dt) (cpL 24 dt lo) false false (cnt dt 24) (-1) sh) H := hP
      have hD : va_D A (cW k q wk (layN 24 (cpL 24 dt lo) (cnt dt 24) (cpD 24 dt wk lg2) hm) (lgN wk (fl dt ld 24) lg (cnt dt 24)) (clr 24 dt) (fl dt ld 24) (cnt dt 24) false true 0 sh ++ mW k q wk (layN 24 (cpL 24 dt lo) (cnt dt 24) (cpD 24 dt wk lg2) hm) (cpD 24 dt wk lg2) (clr 24 dt) (cpL 24 dt lo) false false (cnt dt 24) (-1) sh) := hD
      exact kk _ _ ⟨wk, layN 24 (cpL 24 dt lo) (cnt dt 24) (cpD 24 dt wk lg2) hm, lgN wk (fl dt ld 24) lg (cnt dt 24), clr 24 dt, fl dt ld 24, cnt dt 24, false, true, 0, sh, cpD 24 dt wk lg2, clr 24 dt, cpL 24 dt lo, -1, hP, hD, IV_C (Or.inr ⟨rfl, by decide⟩) hI⟩ hS
set_option maxHeartbeats 4000000 in
set_option maxRecDepth 100000 in
theorem op_229 {p : Program} {l : Launch} {e : Env} {s : State} {m : MethodId} {below : List Frame} {meth : Method} {c : Code} {Q : State → Prop} {b L : Nat} {xs : Nat → Int32} {D : va_G} {k : Nat → ClassId} {q : Nat → Nat} {A : Nat → Prop} {i : Nat} {ls : Array Slot} {H : Heap} {locs : List Loc} (hL : L ≤ 2048) (C0 : lw_At p s m meth c b L xs) (hA : ∀ q, s.heap.size ≤ q → A q) (hbA : ¬ A b) (hi : i + 4 ≤ L) (hK : va_K D classes (tyK k) s) (hG : GS D k q A H) (hS : va_S A s.heap H locs) (hl : lv_has ls 4 [(0, .ref b), (1, .ref (q 0)), (2, .ref (q 7)), (3, .int (nI i))])
    (kk : ∀ (H : Heap) (locs : List Loc), GS D k q A H → va_S A s.heap H locs → W p l e room_1 s m #[Value.ref b] below meth c H locs 13 2421 Q (F0 m 321 ls [])) : W p l e room_1 s m #[Value.ref b] below meth c H locs 13 2421 Q (F0 m 229 ls []) := by
  obtain ⟨hx, hb, hr, hml, hown, hts, hX, hbl, hlocks, hgv⟩ := C0
  have htw := htw_of hts
  have hN := NW.of hts
  obtain ⟨wk, hm, lg, dt, ld, ct, mk, on, un, sh, lg2, dt2, lo, lf, hP, hD, hI⟩ := hG
  cases on
  · have hP : va_P D classes (cW k q wk hm lg dt ld ct mk false un sh ++ mW k q wk hm lg2 dt2 lo true mk ct lf sh) H := hP
    have hD : va_D A (cW k q wk hm lg dt ld ct mk false un sh ++ mW k q wk hm lg2 dt2 lo true mk ct lf sh) := hD
    refine lv_aload_n hx hb d_law_229 rfl (lv_at hl 1 rfl) ?_
    refine call_Vi (n := 0) (As := []) (ws' := cW k q wk hm lg dt ld ct mk false un sh ++ mW k q wk hm lg2 dt2 lo true mk ct lf sh) ⟨hx, hb, hml, hown, htw⟩ (c_Log_revert_off l D k q wk hm lg dt ld ct mk un sh) (in_V tw_122 tw_123 tw_124 tw_9 tw_125) (by decide +kernel) ⟨rfl, rfl, Nat.le_of_ble_eq_true rfl, Nat.le_of_ble_eq_true rfl⟩ hK hN hP hD hS hA [0, 1, 2, 3, 4, 5, 6] [7, 8, 9, 10, 11, 12] [6, 7, 8, 9, 10, 11, 12, 0, 1, 2, 3, 4, 5] rfl rfl ([oM q true mk ct lf sh, aB k (q 8) wk, aB k (q 9) hm, aB k (q 10) lg2, aZ k (q 11) dt2, aZ k (q 12) lo]) rfl rfl (by decide) rfl rfl 0 rfl 0 rfl hl.1 rfl rfl (Nat.le_of_ble_eq_true rfl) d_law_230 ⟨Nat.le_of_ble_eq_true rfl, Nat.le_of_ble_eq_true rfl⟩ (fun H locs hP hD hS => ?_)
    refine lv_aload_n hx hb d_law_233 rfl (lv_at hl 2 rfl) ?_
    refine call_Vi (n := 0) (As := []) (ws' := cW k q wk hm lg dt ld ct mk false un sh ++ mW k q wk hm lg2 dt2 lo true mk ct lf sh) ⟨hx, hb, hml, hown, htw⟩ (c_Model_revert_off l D k q wk hm lg2 dt2 lo mk ct lf sh) (in_V tw_224 tw_225 tw_226 tw_11 tw_227) (by decide +kernel) ⟨rfl, rfl, Nat.le_of_ble_eq_true rfl, Nat.le_of_ble_eq_true rfl⟩ hK hN hP hD hS hA [7, 8, 9, 10, 11, 12] [0, 1, 2, 3, 4, 5, 6] [0, 1, 2, 3, 4, 5, 6, 7, 8, 9, 10, 11, 12] rfl rfl ([oL q, oD q ct mk false un sh, aB k (q 2) wk, aB k (q 3) hm, aB k (q 4) lg, aZ k (q 5) dt, aN k (q 6) ld]) rfl rfl (by decide) rfl rfl 2 rfl 7 rfl hl.1 rfl rfl (Nat.le_of_ble_eq_true rfl) d_law_234 ⟨Nat.le_of_ble_eq_true rfl, Nat.le_of_ble_eq_true rfl⟩ (fun H locs hP hD hS => ?_)
    refine lv_icmp_eq (tgt := 321) hx hb d_law_237 (by decide) (fun c_237 => ?_) (fun c_237 => (c_237 rfl).elim)
    have hP : va_P D classes (cW k q wk hm lg dt ld ct mk false un sh ++ mW k q wk hm lg2 dt2 lo true mk ct lf sh) H := hP
    have hD : va_D A (cW k q wk hm lg dt ld ct mk false un sh ++ mW k q wk hm lg2 dt2 lo true mk ct lf sh) := hD
    exact kk _ _ ⟨wk, hm, lg, dt, ld, ct, mk, false, un, sh, lg2, dt2, lo, lf, hP, hD, hI⟩ hS
  · obtain ⟨e1, e2, hcl⟩ := hI.2.2.2.2.2.1 rfl
    have e2 := e2.symm
    subst e1; subst e2
    have hP : va_P D classes (cW k q wk hm lg dt ld ct false true un sh ++ mW k q wk hm lg2 dt lo false false ct lf sh) H := hP
    have hD : va_D A (cW k q wk hm lg dt ld ct false true un sh ++ mW k q wk hm lg2 dt lo false false ct lf sh) := hD
    refine lv_aload_n hx hb d_law_229 rfl (lv_at hl 1 rfl) ?_
    refine call_Vi (n := 0) (As := []) (ws' := cW k q (cpD 24 dt hm wk) hm lg (clr 24 dt) ld ct false true un sh ++ mW k q wk hm lg2 dt lo false false ct lf sh) ⟨hx, hb, hml, hown, htw⟩ (c_Log_revert_on l D k q wk hm lg dt ld ct false un sh) (in_V tw_122 tw_123 tw_124 tw_9 tw_125) (by decide +kernel) ⟨rfl, rfl, Nat.le_of_ble_eq_true rfl, Nat.le_of_ble_eq_true rfl⟩ hK hN hP hD hS hA [0, 1, 2, 3, 4, 5, 6] [7, 8, 9, 10, 11, 12] [6, 7, 8, 9, 10, 11, 12, 0, 1, 2, 3, 4, 5] rfl rfl ([oM q false false ct lf sh, aB k (q 8) wk, aB k (q 9) hm, aB k (q 10) lg2, aZ k (q 11) dt, aZ k (q 12) lo]) rfl rfl (by decide) rfl rfl 0 rfl 0 rfl hl.1 rfl rfl (Nat.le_of_ble_eq_true rfl) d_law_230 ⟨Nat.le_of_ble_eq_true rfl, Nat.le_of_ble_eq_true rfl⟩ (fun H locs hP hD hS => ?_)
    refine lv_aload_n hx hb d_law_233 rfl (lv_at hl 2 rfl) ?_
    refine call_Vi (n := 0) (As := []) (ws' := cW k q (cpD 24 dt hm wk) hm lg (clr 24 dt) ld ct false true un sh ++ mW k q (cpA 24 hm wk) hm lg2 (clr 24 dt) lo false false ct lf sh) ⟨hx, hb, hml, hown, htw⟩ (c_Model_revert_on l D k q wk hm lg2 dt lo false ct lf sh) (in_V tw_224 tw_225 tw_226 tw_11 tw_227) (by decide +kernel) ⟨rfl, rfl, Nat.le_of_ble_eq_true rfl, Nat.le_of_ble_eq_true rfl⟩ hK hN hP hD hS hA [7, 8, 9, 10, 11, 12] [0, 1, 2, 3, 4, 5, 6] [0, 1, 2, 3, 4, 5, 6, 7, 8, 9, 10, 11, 12] rfl rfl ([oL q, oD q ct false true un sh, aB k (q 2) (cpD 24 dt hm wk), aB k (q 3) hm, aB k (q 4) lg, aZ k (q 5) (clr 24 dt), aN k (q 6) ld]) rfl rfl (by decide) rfl rfl 2 rfl 7 rfl hl.1 rfl rfl (Nat.le_of_ble_eq_true rfl) d_law_234 ⟨Nat.le_of_ble_eq_true rfl, Nat.le_of_ble_eq_true rfl⟩ (fun H locs hP hD hS => ?_)
    refine lv_icmp_eq (tgt := 321) hx hb d_law_237 (by decide) (fun c_237 => ?_) (fun c_237 => (c_237 rfl).elim)
    have hP : va_P D classes (cW k q (cpD 24 dt hm wk) hm lg (clr 24 dt) ld ct false true un sh ++ mW k q (cpA 24 hm wk) hm lg2 (clr 24 dt) lo false false ct lf sh) H := hP
    have hD : va_D A (cW k q (cpD 24 dt hm wk) hm lg (clr 24 dt) ld ct false true un sh ++ mW k q (cpA 24 hm wk) hm lg2 (clr 24 dt) lo false false ct lf sh) := hD
    rw [CL_revert hcl] at hP hD
    have hP : va_P D classes (cW k q (cpA 24 hm wk) hm lg (clr 24 dt) ld ct false true un sh ++ mW k q (cpA 24 hm wk) hm lg2 (clr 24 dt) lo false false ct lf sh) H := hP
    have hD : va_D A (cW k q (cpA 24 hm wk) hm lg (clr 24 dt) ld ct false true un sh ++ mW k q (cpA 24 hm wk) hm lg2 (clr 24 dt) lo false false ct lf sh) := hD
    exact kk _ _ ⟨cpA 24 hm wk, hm, lg, clr 24 dt, ld, ct, false, true, un, sh, lg2, clr 24 dt, lo, lf, hP, hD, IV_fresh hm hI⟩ hS
set_option maxHeartbeats 4000000 in
set_option maxRecDepth 100000 in
theorem op_242 {p : Program} {l : Launch} {e : Env} {s : State} {m : MethodId} {below : List Frame} {meth : Method} {c : Code} {Q : State → Prop} {b L : Nat} {xs : Nat → Int32} {D : va_G} {k : Nat → ClassId} {q : Nat → Nat} {A : Nat → Prop} {i : Nat} {ls : Array Slot} {H : Heap} {locs : List Loc} (hL : L ≤ 2048) (C0 : lw_At p s m meth c b L xs) (hA : ∀ q, s.heap.size ≤ q → A q) (hbA : ¬ A b) (hi : i + 4 ≤ L) (hK : va_K D classes (tyK k) s) (hG : GS D k q A H) (hS : va_S A s.heap H locs) (hl : lv_has ls 4 [(0, .ref b), (1, .ref (q 0)), (2, .ref (q 7)), (3, .int (nI i))])
    (kk : ∀ (H : Heap) (locs : List Loc), GS D k q A H → va_S A s.heap H locs → W p l e room_1 s m #[Value.ref b] below meth c H locs 13 2421 Q (F0 m 321 ls [])) : W p l e room_1 s m #[Value.ref b] below meth c H locs 13 2421 Q (F0 m 242 ls []) := by
  obtain ⟨hx, hb, hr, hml, hown, hts, hX, hbl, hlocks, hgv⟩ := C0
  have htw := htw_of hts
  have hN := NW.of hts
  obtain ⟨wk, hm, lg, dt, ld, ct, mk, on, un, sh, lg2, dt2, lo, lf, hP, hD, hI⟩ := hG
  cases on
  · have hP : va_P D classes (cW k q wk hm lg dt ld ct mk false un sh ++ mW k q wk hm lg2 dt2 lo true mk ct lf sh) H := hP
    have hD : va_D A (cW k q wk hm lg dt ld ct mk false un sh ++ mW k q wk hm lg2 dt2 lo true mk ct lf sh) := hD
    refine lv_aload_n hx hb d_law_242 rfl (lv_at hl 1 rfl) ?_
    refine lv_aload_n hx hb d_law_243 rfl (lv_at hl 0 rfl) ?_
    refine lv_iload_n hx hb d_law_244 rfl (lv_at hl 3 rfl) ?_
    refine lv_iconst (v := (nI 1)) hx hb d_law_245 (by decide) ?_
    refine my_iadd hx hb (x := i) (y := 1) d_law_246 ?_
    refine my_sld hx hb hX hbl hbA hS (i := i + 1) (by omega) (by omega) d_law_247 ?_
    refine lv_aload_n hx hb d_law_248 rfl (lv_at hl 0 rfl) ?_
    refine lv_iload_n hx hb d_law_249 rfl (lv_at hl 3 rfl) ?_
    refine lv_iconst (v := (nI 2)) hx hb d_law_250 (by decide) ?_
    refine my_iadd hx hb (x := i) (y := 2) d_law_251 ?_
    refine my_sld hx hb hX hbl hbA hS (i := i + 2) (by omega) (by omega) d_law_252 ?_
    refine call_Vi (n := 2) (As := [.int (xs (i + 1)), .int (xs (i + 2))]) (ws' := cW k q wk hm lg dt ld ct mk false un sh ++ mW k q wk hm lg2 dt2 lo true mk ct lf sh) ⟨hx, hb, hml, hown, htw⟩ (c_Log_cut_off l D k q wk hm lg dt ld ct mk un sh (xs (i + 1)) (xs (i + 2))) (in_V tw_130 tw_131 tw_132 tw_9 tw_133) (by decide +kernel) ⟨rfl, rfl, Nat.le_of_ble_eq_true rfl, Nat.le_of_ble_eq_true rfl⟩ hK hN hP hD hS hA [0, 1, 2, 3, 4, 5, 6] [7, 8, 9, 10, 11, 12] [6, 7, 8, 9, 10, 11, 12, 0, 1, 2, 3, 4, 5] rfl rfl ([oM q true mk ct lf sh, aB k (q 8) wk, aB k (q 9) hm, aB k (q 10) lg2, aZ k (q 11) dt2, aZ k (q 12) lo]) rfl rfl (by decide) rfl rfl 0 rfl 0 rfl hl.1 rfl rfl (Nat.le_of_ble_eq_true rfl) d_law_253 ⟨Nat.le_of_ble_eq_true rfl, Nat.le_of_ble_eq_true rfl⟩ (fun H locs hP hD hS => ?_)
    refine lv_aload_n hx hb d_law_256 rfl (lv_at hl 2 rfl) ?_
    refine lv_aload_n hx hb d_law_257 rfl (lv_at hl 0 rfl) ?_
    refine lv_iload_n hx hb d_law_258 rfl (lv_at hl 3 rfl) ?_
    refine lv_iconst (v := (nI 1)) hx hb d_law_259 (by decide) ?_
    refine my_iadd hx hb (x := i) (y := 1) d_law_260 ?_
    refine my_sld hx hb hX hbl hbA hS (i := i + 1) (by omega) (by omega) d_law_261 ?_
    refine lv_aload_n hx hb d_law_262 rfl (lv_at hl 0 rfl) ?_
    refine lv_iload_n hx hb d_law_263 rfl (lv_at hl 3 rfl) ?_
    refine lv_iconst (v := (nI 2)) hx hb d_law_264 (by decide) ?_
    refine my_iadd hx hb (x := i) (y := 2) d_law_265 ?_
    refine my_sld hx hb hX hbl hbA hS (i := i + 2) (by omega) (by omega) d_law_266 ?_
    refine call_Vi (n := 2) (As := [.int (xs (i + 1)), .int (xs (i + 2))]) (ws' := cW k q wk hm lg dt ld ct mk false un sh ++ mW k q wk hm lg2 dt2 lo true mk ct lf sh) ⟨hx, hb, hml, hown, htw⟩ (c_Model_cut_off l D k q wk hm lg2 dt2 lo mk ct lf sh (xs (i + 1)) (xs (i + 2))) (in_V tw_232 tw_233 tw_234 tw_11 tw_235) (by decide +kernel) ⟨rfl, rfl, Nat.le_of_ble_eq_true rfl, Nat.le_of_ble_eq_true rfl⟩ hK hN hP hD hS hA [7, 8, 9, 10, 11, 12] [0, 1, 2, 3, 4, 5, 6] [0, 1, 2, 3, 4, 5, 6, 7, 8, 9, 10, 11, 12] rfl rfl ([oL q, oD q ct mk false un sh, aB k (q 2) wk, aB k (q 3) hm, aB k (q 4) lg, aZ k (q 5) dt, aN k (q 6) ld]) rfl rfl (by decide) rfl rfl 2 rfl 7 rfl hl.1 rfl rfl (Nat.le_of_ble_eq_true rfl) d_law_267 ⟨Nat.le_of_ble_eq_true rfl, Nat.le_of_ble_eq_true rfl⟩ (fun H locs hP hD hS => ?_)
    refine lv_icmp_eq (tgt := 321) hx hb d_law_270 (by decide) (fun c_270 => ?_) (fun c_270 => (c_270 rfl).elim)
    have hP : va_P D classes (cW k q wk hm lg dt ld ct mk false un sh ++ mW k q wk hm lg2 dt2 lo true mk ct lf sh) H := hP
    have hD : va_D A (cW k q wk hm lg dt ld ct mk false un sh ++ mW k q wk hm lg2 dt2 lo true mk ct lf sh) := hD
    exact kk _ _ ⟨wk, hm, lg, dt, ld, ct, mk, false, un, sh, lg2, dt2, lo, lf, hP, hD, hI⟩ hS
  · obtain ⟨e1, e2, hcl⟩ := hI.2.2.2.2.2.1 rfl
    have e2 := e2.symm
    subst e1; subst e2
    by_cases hp : cutP (xs (i + 1)) (xs (i + 2))
    · obtain ⟨x, y, g1, g2, g3, e1, e2⟩ := hp
      have hP : va_P D classes (cW k q wk hm lg dt ld ct false true un sh ++ mW k q wk hm lg2 dt lo false false ct lf sh) H := hP
      have hD : va_D A (cW k q wk hm lg dt ld ct false true un sh ++ mW k q wk hm lg2 dt lo false false ct lf sh) := hD
      refine lv_aload_n hx hb d_law_242 rfl (lv_at hl 1 rfl) ?_
      refine lv_aload_n hx hb d_law_243 rfl (lv_at hl 0 rfl) ?_
      refine lv_iload_n hx hb d_law_244 rfl (lv_at hl 3 rfl) ?_
      refine lv_iconst (v := (nI 1)) hx hb d_law_245 (by decide) ?_
      refine my_iadd hx hb (x := i) (y := 1) d_law_246 ?_
      refine my_sld hx hb hX hbl hbA hS (i := i + 1) (by omega) (by omega) d_law_247 ?_
      refine lv_as (y := (nI x)) e1 ?_
      refine lv_aload_n hx hb d_law_248 rfl (lv_at hl 0 rfl) ?_
      refine lv_iload_n hx hb d_law_249 rfl (lv_at hl 3 rfl) ?_
      refine lv_iconst (v := (nI 2)) hx hb d_law_250 (by decide) ?_
      refine my_iadd hx hb (x := i) (y := 2) d_law_251 ?_
      refine my_sld hx hb hX hbl hbA hS (i := i + 2) (by omega) (by omega) d_law_252 ?_
      refine lv_as (y := (nI y)) e2 ?_
      refine call_Vi (n := 2) (As := [.int (nI x), .int (nI y)]) (ws' := cW k q wk hm lg dt ld ct false true x y ++ mW k q wk hm lg2 dt lo false false ct lf sh) ⟨hx, hb, hml, hown, htw⟩ (c_Log_cut_y l D k q wk hm lg dt ld ct false un sh x y g1 g2 g3) (in_V tw_130 tw_131 tw_132 tw_9 tw_133) (by decide +kernel) ⟨rfl, rfl, Nat.le_of_ble_eq_true rfl, Nat.le_of_ble_eq_true rfl⟩ hK hN hP hD hS hA [0, 1, 2, 3, 4, 5, 6] [7, 8, 9, 10, 11, 12] [6, 7, 8, 9, 10, 11, 12, 0, 1, 2, 3, 4, 5] rfl rfl ([oM q false false ct lf sh, aB k (q 8) wk, aB k (q 9) hm, aB k (q 10) lg2, aZ k (q 11) dt, aZ k (q 12) lo]) rfl rfl (by decide) rfl rfl 0 rfl 0 rfl hl.1 rfl rfl (Nat.le_of_ble_eq_true rfl) d_law_253 ⟨Nat.le_of_ble_eq_true rfl, Nat.le_of_ble_eq_true rfl⟩ (fun H locs hP hD hS => ?_)
      refine lv_aload_n hx hb d_law_256 rfl (lv_at hl 2 rfl) ?_
      refine lv_aload_n hx hb d_law_257 rfl (lv_at hl 0 rfl) ?_
      refine lv_iload_n hx hb d_law_258 rfl (lv_at hl 3 rfl) ?_
      refine lv_iconst (v := (nI 1)) hx hb d_law_259 (by decide) ?_
      refine my_iadd hx hb (x := i) (y := 1) d_law_260 ?_
      refine my_sld hx hb hX hbl hbA hS (i := i + 1) (by omega) (by omega) d_law_261 ?_
      refine lv_as (y := (nI x)) e1 ?_
      refine lv_aload_n hx hb d_law_262 rfl (lv_at hl 0 rfl) ?_
      refine lv_iload_n hx hb d_law_263 rfl (lv_at hl 3 rfl) ?_
      refine lv_iconst (v := (nI 2)) hx hb d_law_264 (by decide) ?_
      refine my_iadd hx hb (x := i) (y := 2) d_law_265 ?_
      refine my_sld hx hb hX hbl hbA hS (i := i + 2) (by omega) (by omega) d_law_266 ?_
      refine lv_as (y := (nI y)) e2 ?_
      refine call_Vi (n := 2) (As := [.int (nI x), .int (nI y)]) (ws' := cW k q wk hm lg dt ld ct false true x y ++ mW k q wk hm lg2 dt lo false false ct (nI x) y) ⟨hx, hb, hml, hown, htw⟩ (c_Model_cut_y l D k q wk hm lg2 dt lo false ct lf sh x y g1 g2 g3) (in_V tw_232 tw_233 tw_234 tw_11 tw_235) (by decide +kernel) ⟨rfl, rfl, Nat.le_of_ble_eq_true rfl, Nat.le_of_ble_eq_true rfl⟩ hK hN hP hD hS hA [7, 8, 9, 10, 11, 12] [0, 1, 2, 3, 4, 5, 6] [0, 1, 2, 3, 4, 5, 6, 7, 8, 9, 10, 11, 12] rfl rfl ([oL q, oD q ct false true x y, aB k (q 2) wk, aB k (q 3) hm, aB k (q 4) lg, aZ k (q 5) dt, aN k (q 6) ld]) rfl rfl (by decide) rfl rfl 2 rfl 7 rfl hl.1 rfl rfl (Nat.le_of_ble_eq_true rfl) d_law_267 ⟨Nat.le_of_ble_eq_true rfl, Nat.le_of_ble_eq_true rfl⟩ (fun H locs hP hD hS => ?_)
      refine lv_icmp_eq (tgt := 321) hx hb d_law_270 (by decide) (fun c_270 => ?_) (fun c_270 => (c_270 rfl).elim)
      have hP : va_P D classes (cW k q wk hm lg dt ld ct false true x y ++ mW k q wk hm lg2 dt lo false false ct (nI x) y) H := hP
      have hD : va_D A (cW k q wk hm lg dt ld ct false true x y ++ mW k q wk hm lg2 dt lo false false ct (nI x) y) := hD
      exact kk _ _ ⟨wk, hm, lg, dt, ld, ct, false, true, x, y, lg2, dt, lo, nI x, hP, hD, IV_cut g1 g2 g3 hI⟩ hS
    · have hP : va_P D classes (cW k q wk hm lg dt ld ct false true un sh ++ mW k q wk hm lg2 dt lo false false ct lf sh) H := hP
      have hD : va_D A (cW k q wk hm lg dt ld ct false true un sh ++ mW k q wk hm lg2 dt lo false false ct lf sh) := hD
      refine lv_aload_n hx hb d_law_242 rfl (lv_at hl 1 rfl) ?_
      refine lv_aload_n hx hb d_law_243 rfl (lv_at hl 0 rfl) ?_
      refine lv_iload_n hx hb d_law_244 rfl (lv_at hl 3 rfl) ?_
      refine lv_iconst (v := (nI 1)) hx hb d_law_245 (by decide) ?_
      refine my_iadd hx hb (x := i) (y := 1) d_law_246 ?_
      refine my_sld hx hb hX hbl hbA hS (i := i + 1) (by omega) (by omega) d_law_247 ?_
      refine lv_aload_n hx hb d_law_248 rfl (lv_at hl 0 rfl) ?_
      refine lv_iload_n hx hb d_law_249 rfl (lv_at hl 3 rfl) ?_
      refine lv_iconst (v := (nI 2)) hx hb d_law_250 (by decide) ?_
      refine my_iadd hx hb (x := i) (y := 2) d_law_251 ?_
      refine my_sld hx hb hX hbl hbA hS (i := i + 2) (by omega) (by omega) d_law_252 ?_
      refine call_Vi (n := 2) (As := [.int (xs (i + 1)), .int (xs (i + 2))]) (ws' := cW k q wk hm lg dt ld ct false true un sh ++ mW k q wk hm lg2 dt lo false false ct lf sh) ⟨hx, hb, hml, hown, htw⟩ (c_Log_cut_n l D k q wk hm lg dt ld ct false un sh (xs (i + 1)) (xs (i + 2)) hp) (in_V tw_130 tw_131 tw_132 tw_9 tw_133) (by decide +kernel) ⟨rfl, rfl, Nat.le_of_ble_eq_true rfl, Nat.le_of_ble_eq_true rfl⟩ hK hN hP hD hS hA [0, 1, 2, 3, 4, 5, 6] [7, 8, 9, 10, 11, 12] [6, 7, 8, 9, 10, 11, 12, 0, 1, 2, 3, 4, 5] rfl rfl ([oM q false false ct lf sh, aB k (q 8) wk, aB k (q 9) hm, aB k (q 10) lg2, aZ k (q 11) dt, aZ k (q 12) lo]) rfl rfl (by decide) rfl rfl 0 rfl 0 rfl hl.1 rfl rfl (Nat.le_of_ble_eq_true rfl) d_law_253 ⟨Nat.le_of_ble_eq_true rfl, Nat.le_of_ble_eq_true rfl⟩ (fun H locs hP hD hS => ?_)
      refine lv_aload_n hx hb d_law_256 rfl (lv_at hl 2 rfl) ?_
      refine lv_aload_n hx hb d_law_257 rfl (lv_at hl 0 rfl) ?_
      refine lv_iload_n hx hb d_law_258 rfl (lv_at hl 3 rfl) ?_
      refine lv_iconst (v := (nI 1)) hx hb d_law_259 (by decide) ?_
      refine my_iadd hx hb (x := i) (y := 1) d_law_260 ?_
      refine my_sld hx hb hX hbl hbA hS (i := i + 1) (by omega) (by omega) d_law_261 ?_
      refine lv_aload_n hx hb d_law_262 rfl (lv_at hl 0 rfl) ?_
      refine lv_iload_n hx hb d_law_263 rfl (lv_at hl 3 rfl) ?_
      refine lv_iconst (v := (nI 2)) hx hb d_law_264 (by decide) ?_
      refine my_iadd hx hb (x := i) (y := 2) d_law_265 ?_
      refine my_sld hx hb hX hbl hbA hS (i := i + 2) (by omega) (by omega) d_law_266 ?_
      refine call_Vi (n := 2) (As := [.int (xs (i + 1)), .int (xs (i + 2))]) (ws' := cW k q wk hm lg dt ld ct false true un sh ++ mW k q wk hm lg2 dt lo false false ct lf sh) ⟨hx, hb, hml, hown, htw⟩ (c_Model_cut_n l D k q wk hm lg2 dt lo false ct lf sh (xs (i + 1)) (xs (i + 2)) hp) (in_V tw_232 tw_233 tw_234 tw_11 tw_235) (by decide +kernel) ⟨rfl, rfl, Nat.le_of_ble_eq_true rfl, Nat.le_of_ble_eq_true rfl⟩ hK hN hP hD hS hA [7, 8, 9, 10, 11, 12] [0, 1, 2, 3, 4, 5, 6] [0, 1, 2, 3, 4, 5, 6, 7, 8, 9, 10, 11, 12] rfl rfl ([oL q, oD q ct false true un sh, aB k (q 2) wk, aB k (q 3) hm, aB k (q 4) lg, aZ k (q 5) dt, aN k (q 6) ld]) rfl rfl (by decide) rfl rfl 2 rfl 7 rfl hl.1 rfl rfl (Nat.le_of_ble_eq_true rfl) d_law_267 ⟨Nat.le_of_ble_eq_true rfl, Nat.le_of_ble_eq_true rfl⟩ (fun H locs hP hD hS => ?_)
      refine lv_icmp_eq (tgt := 321) hx hb d_law_270 (by decide) (fun c_270 => ?_) (fun c_270 => (c_270 rfl).elim)
      have hP : va_P D classes (cW k q wk hm lg dt ld ct false true un sh ++ mW k q wk hm lg2 dt lo false false ct lf sh) H := hP
      have hD : va_D A (cW k q wk hm lg dt ld ct false true un sh ++ mW k q wk hm lg2 dt lo false false ct lf sh) := hD
      exact kk _ _ ⟨wk, hm, lg, dt, ld, ct, false, true, un, sh, lg2, dt, lo, lf, hP, hD, hI⟩ hS
set_option maxHeartbeats 4000000 in
set_option maxRecDepth 100000 in
theorem op_275 {p : Program} {l : Launch} {e : Env} {s : State} {m : MethodId} {below : List Frame} {meth : Method} {c : Code} {Q : State → Prop} {b L : Nat} {xs : Nat → Int32} {D : va_G} {k : Nat → ClassId} {q : Nat → Nat} {A : Nat → Prop} {i : Nat} {ls : Array Slot} {H : Heap} {locs : List Loc} (hL : L ≤ 2048) (C0 : lw_At p s m meth c b L xs) (hA : ∀ q, s.heap.size ≤ q → A q) (hbA : ¬ A b) (hi : i + 4 ≤ L) (hK : va_K D classes (tyK k) s) (hG : GS D k q A H) (hS : va_S A s.heap H locs) (hl : lv_has ls 4 [(0, .ref b), (1, .ref (q 0)), (2, .ref (q 7)), (3, .int (nI i))])
    (kk : ∀ (H : Heap) (locs : List Loc), GS D k q A H → va_S A s.heap H locs → W p l e room_1 s m #[Value.ref b] below meth c H locs 13 2421 Q (F0 m 321 ls [])) : W p l e room_1 s m #[Value.ref b] below meth c H locs 13 2421 Q (F0 m 275 ls []) := by
  obtain ⟨hx, hb, hr, hml, hown, hts, hX, hbl, hlocks, hgv⟩ := C0
  have htw := htw_of hts
  have hN := NW.of hts
  obtain ⟨wk, hm, lg, dt, ld, ct, mk, on, un, sh, lg2, dt2, lo, lf, hP, hD, hI⟩ := hG
  cases on
  · by_cases hp : stP (xs (i + 1))
    · obtain ⟨x, hx24, e1⟩ := hp
      rcases (show x < 1000 ∨ 1000 = x by omega) with hw | hw
      · cases mk
        · have hP : va_P D classes (cW k q wk hm lg dt ld ct false false un sh ++ mW k q wk hm lg2 dt2 lo true false ct lf sh) H := hP
          have hD : va_D A (cW k q wk hm lg dt ld ct false false un sh ++ mW k q wk hm lg2 dt2 lo true false ct lf sh) := hD
          refine lv_aload_n hx hb d_law_275 rfl (lv_at hl 1 rfl) ?_
          refine lv_aload_n hx hb d_law_276 rfl (lv_at hl 0 rfl) ?_
          refine lv_iload_n hx hb d_law_277 rfl (lv_at hl 3 rfl) ?_
          refine lv_iconst (v := (nI 1)) hx hb d_law_278 (by decide) ?_
          refine my_iadd hx hb (x := i) (y := 1) d_law_279 ?_
          refine my_sld hx hb hX hbl hbA hS (i := i + 1) (by omega) (by omega) d_law_280 ?_
          refine lv_as (y := (nI x)) e1 ?_
          refine call_Vi (n := 1) (As := [.int (nI x)]) (ws' := cW k q wk (hmN lg ld hm 0) lg dt ld ct false false un sh ++ mW k q wk hm lg2 dt2 lo true false ct lf sh) ⟨hx, hb, hml, hown, htw⟩ (c_Log_start_p0 l D k q wk hm lg dt ld ct un sh x hI.2.2.1 hI.2.2.2.1 hw) (in_V tw_134 tw_135 tw_136 tw_9 tw_137) (by decide +kernel) ⟨rfl, rfl, Nat.le_of_ble_eq_true rfl, Nat.le_of_ble_eq_true rfl⟩ hK hN hP hD hS hA [0, 1, 2, 3, 4, 5, 6] [7, 8, 9, 10, 11, 12] [6, 7, 8, 9, 10, 11, 12, 0, 1, 2, 3, 4, 5] rfl rfl ([oM q true false ct lf sh, aB k (q 8) wk, aB k (q 9) hm, aB k (q 10) lg2, aZ k (q 11) dt2, aZ k (q 12) lo]) rfl rfl (by decide) rfl rfl 0 rfl 0 rfl hl.1 rfl rfl (Nat.le_of_ble_eq_true rfl) d_law_281 ⟨Nat.le_of_ble_eq_true rfl, Nat.le_of_ble_eq_true rfl⟩ (fun H locs hP hD hS => ?_)
          refine lv_aload_n hx hb d_law_284 rfl (lv_at hl 2 rfl) ?_
          refine lv_aload_n hx hb d_law_285 rfl (lv_at hl 0 rfl) ?_
          refine lv_iload_n hx hb d_law_286 rfl (lv_at hl 3 rfl) ?_
          refine lv_iconst (v := (nI 1)) hx hb d_law_287 (by decide) ?_
          refine my_iadd hx hb (x := i) (y := 1) d_law_288 ?_
          refine my_sld hx hb hX hbl hbA hS (i := i + 1) (by omega) (by omega) d_law_289 ?_
          refine lv_as (y := (nI x)) e1 ?_
          refine call_Vi (n := 1) (As := [.int (nI x)]) (ws' := cW k q wk (hmN lg ld hm 0) lg dt ld ct false false un sh ++ mW k q wk hm lg2 dt2 lo true false ct lf sh) ⟨hx, hb, hml, hown, htw⟩ (c_Model_start_p0 l D k q wk hm lg2 dt2 lo ct lf sh x hw) (in_V tw_236 tw_237 tw_238 tw_11 tw_239) (by decide +kernel) ⟨rfl, rfl, Nat.le_of_ble_eq_true rfl, Nat.le_of_ble_eq_true rfl⟩ hK hN hP hD hS hA [7, 8, 9, 10, 11, 12] [0, 1, 2, 3, 4, 5, 6] [0, 1, 2, 3, 4, 5, 6, 7, 8, 9, 10, 11, 12] rfl rfl ([oL q, oD q ct false false un sh, aB k (q 2) wk, aB k (q 3) (hmN lg ld hm 0), aB k (q 4) lg, aZ k (q 5) dt, aN k (q 6) ld]) rfl rfl (by decide) rfl rfl 2 rfl 7 rfl hl.1 rfl rfl (Nat.le_of_ble_eq_true rfl) d_law_290 ⟨Nat.le_of_ble_eq_true rfl, Nat.le_of_ble_eq_true rfl⟩ (fun H locs hP hD hS => ?_)
          refine lv_icmp_eq (tgt := 321) hx hb d_law_293 (by decide) (fun c_293 => ?_) (fun c_293 => (c_293 rfl).elim)
          have hP : va_P D classes (cW k q wk (hmN lg ld hm 0) lg dt ld ct false false un sh ++ mW k q wk hm lg2 dt2 lo true false ct lf sh) H := hP
          have hD : va_D A (cW k q wk (hmN lg ld hm 0) lg dt ld ct false false un sh ++ mW k q wk hm lg2 dt2 lo true false ct lf sh) := hD
          have hP : va_P D classes (cW k q wk hm lg dt ld ct false false un sh ++ mW k q wk hm lg2 dt2 lo true false ct lf sh) H := hP
          have hD : va_D A (cW k q wk hm lg dt ld ct false false un sh ++ mW k q wk hm lg2 dt2 lo true false ct lf sh) := hD
          exact kk _ _ ⟨wk, hm, lg, dt, ld, ct, false, false, un, sh, lg2, dt2, lo, lf, hP, hD, IV_home _ hI⟩ hS
        · have hE := hI.2.2.2.2.2.2 rfl
          have hP : va_P D classes (cW k q wk hm lg dt ld ct true false un sh ++ mW k q wk hm lg2 dt2 lo true true ct lf sh) H := hP
          have hD : va_D A (cW k q wk hm lg dt ld ct true false un sh ++ mW k q wk hm lg2 dt2 lo true true ct lf sh) := hD
          refine lv_aload_n hx hb d_law_275 rfl (lv_at hl 1 rfl) ?_
          refine lv_aload_n hx hb d_law_276 rfl (lv_at hl 0 rfl) ?_
          refine lv_iload_n hx hb d_law_277 rfl (lv_at hl 3 rfl) ?_
          refine lv_iconst (v := (nI 1)) hx hb d_law_278 (by decide) ?_
          refine my_iadd hx hb (x := i) (y := 1) d_law_279 ?_
          refine my_sld hx hb hX hbl hbA hS (i := i + 1) (by omega) (by omega) d_law_280 ?_
          refine lv_as (y := (nI x)) e1 ?_
          refine call_Vi (n := 1) (As := [.int (nI x)]) (ws' := cW k q wk (hmN lg ld hm ((ct * x) / 1000)) lg dt ld ct true false un sh ++ mW k q wk hm lg2 dt2 lo true true ct lf sh) ⟨hx, hb, hml, hown, htw⟩ (c_Log_start_p1 l D k q wk hm lg dt ld ct un sh x hI.2.2.1 hI.2.2.2.1 hw) (in_V tw_134 tw_135 tw_136 tw_9 tw_137) (by decide +kernel) ⟨rfl, rfl, Nat.le_of_ble_eq_true rfl, Nat.le_of_ble_eq_true rfl⟩ hK hN hP hD hS hA [0, 1, 2, 3, 4, 5, 6] [7, 8, 9, 10, 11, 12] [6, 7, 8, 9, 10, 11, 12, 0, 1, 2, 3, 4, 5] rfl rfl ([oM q true true ct lf sh, aB k (q 8) wk, aB k (q 9) hm, aB k (q 10) lg2, aZ k (q 11) dt2, aZ k (q 12) lo]) rfl rfl (by decide) rfl rfl 0 rfl 0 rfl hl.1 rfl rfl (Nat.le_of_ble_eq_true rfl) d_law_281 ⟨Nat.le_of_ble_eq_true rfl, Nat.le_of_ble_eq_true rfl⟩ (fun H locs hP hD hS => ?_)
          refine lv_aload_n hx hb d_law_284 rfl (lv_at hl 2 rfl) ?_
          refine lv_aload_n hx hb d_law_285 rfl (lv_at hl 0 rfl) ?_
          refine lv_iload_n hx hb d_law_286 rfl (lv_at hl 3 rfl) ?_
          refine lv_iconst (v := (nI 1)) hx hb d_law_287 (by decide) ?_
          refine my_iadd hx hb (x := i) (y := 1) d_law_288 ?_
          refine my_sld hx hb hX hbl hbA hS (i := i + 1) (by omega) (by omega) d_law_289 ?_
          refine lv_as (y := (nI x)) e1 ?_
          refine call_Vi (n := 1) (As := [.int (nI x)]) (ws' := cW k q wk (hmN lg ld hm ((ct * x) / 1000)) lg dt ld ct true false un sh ++ mW k q wk (layN 24 lo ((cnt lo 24 * x) / 1000) lg2 hm) lg2 dt2 lo true true ct lf sh) ⟨hx, hb, hml, hown, htw⟩ (c_Model_start_p1 l D k q wk hm lg2 dt2 lo ct lf sh x hw) (in_V tw_236 tw_237 tw_238 tw_11 tw_239) (by decide +kernel) ⟨rfl, rfl, Nat.le_of_ble_eq_true rfl, Nat.le_of_ble_eq_true rfl⟩ hK hN hP hD hS hA [7, 8, 9, 10, 11, 12] [0, 1, 2, 3, 4, 5, 6] [0, 1, 2, 3, 4, 5, 6, 7, 8, 9, 10, 11, 12] rfl rfl ([oL q, oD q ct true false un sh, aB k (q 2) wk, aB k (q 3) (hmN lg ld hm ((ct * x) / 1000)), aB k (q 4) lg, aZ k (q 5) dt, aN k (q 6) ld]) rfl rfl (by decide) rfl rfl 2 rfl 7 rfl hl.1 rfl rfl (Nat.le_of_ble_eq_true rfl) d_law_290 ⟨Nat.le_of_ble_eq_true rfl, Nat.le_of_ble_eq_true rfl⟩ (fun H locs hP hD hS => ?_)
          refine lv_icmp_eq (tgt := 321) hx hb d_law_293 (by decide) (fun c_293 => ?_) (fun c_293 => (c_293 rfl).elim)
          have hP : va_P D classes (cW k q wk (hmN lg ld hm ((ct * x) / 1000)) lg dt ld ct true false un sh ++ mW k q wk (layN 24 lo ((cnt lo 24 * x) / 1000) lg2 hm) lg2 dt2 lo true true ct lf sh) H := hP
          have hD : va_D A (cW k q wk (hmN lg ld hm ((ct * x) / 1000)) lg dt ld ct true false un sh ++ mW k q wk (layN 24 lo ((cnt lo 24 * x) / 1000) lg2 hm) lg2 dt2 lo true true ct lf sh) := hD
          rw [hmN_lay hE hm (div_b (by omega)), ← hE.1] at hP hD
          have hP : va_P D classes (cW k q wk (layN 24 lo ((ct * x) / 1000) lg2 hm) lg dt ld ct true false un sh ++ mW k q wk (layN 24 lo ((ct * x) / 1000) lg2 hm) lg2 dt2 lo true true ct lf sh) H := hP
          have hD : va_D A (cW k q wk (layN 24 lo ((ct * x) / 1000) lg2 hm) lg dt ld ct true false un sh ++ mW k q wk (layN 24 lo ((ct * x) / 1000) lg2 hm) lg2 dt2 lo true true ct lf sh) := hD
          exact kk _ _ ⟨wk, layN 24 lo ((ct * x) / 1000) lg2 hm, lg, dt, ld, ct, true, false, un, sh, lg2, dt2, lo, lf, hP, hD, IV_home _ hI⟩ hS
      · subst hw
        cases mk
        · have hP : va_P D classes (cW k q wk hm lg dt ld ct false false un sh ++ mW k q wk hm lg2 dt2 lo true false ct lf sh) H := hP
          have hD : va_D A (cW k q wk hm lg dt ld ct false false un sh ++ mW k q wk hm lg2 dt2 lo true false ct lf sh) := hD
          refine lv_aload_n hx hb d_law_275 rfl (lv_at hl 1 rfl) ?_
          refine lv_aload_n hx hb d_law_276 rfl (lv_at hl 0 rfl) ?_
          refine lv_iload_n hx hb d_law_277 rfl (lv_at hl 3 rfl) ?_
          refine lv_iconst (v := (nI 1)) hx hb d_law_278 (by decide) ?_
          refine my_iadd hx hb (x := i) (y := 1) d_law_279 ?_
          refine my_sld hx hb hX hbl hbA hS (i := i + 1) (by omega) (by omega) d_law_280 ?_
          refine lv_as (y := (nI 1000)) e1 ?_
          refine call_Vi (n := 1) (As := [.int (nI 1000)]) (ws' := cW k q (cpA 24 (hmN lg ld hm 0) wk) (hmN lg ld hm 0) lg (clr 24 dt) ld ct false true un sh ++ mW k q wk hm lg2 dt2 lo true false ct lf sh) ⟨hx, hb, hml, hown, htw⟩ (c_Log_start_w0 l D k q wk hm lg dt ld ct un sh hI.2.2.1 hI.2.2.2.1) (in_V tw_134 tw_135 tw_136 tw_9 tw_137) (by decide +kernel) ⟨rfl, rfl, Nat.le_of_ble_eq_true rfl, Nat.le_of_ble_eq_true rfl⟩ hK hN hP hD hS hA [0, 1, 2, 3, 4, 5, 6] [7, 8, 9, 10, 11, 12] [6, 7, 8, 9, 10, 11, 12, 0, 1, 2, 3, 4, 5] rfl rfl ([oM q true false ct lf sh, aB k (q 8) wk, aB k (q 9) hm, aB k (q 10) lg2, aZ k (q 11) dt2, aZ k (q 12) lo]) rfl rfl (by decide) rfl rfl 0 rfl 0 rfl hl.1 rfl rfl (Nat.le_of_ble_eq_true rfl) d_law_281 ⟨Nat.le_of_ble_eq_true rfl, Nat.le_of_ble_eq_true rfl⟩ (fun H locs hP hD hS => ?_)
          refine lv_aload_n hx hb d_law_284 rfl (lv_at hl 2 rfl) ?_
          refine lv_aload_n hx hb d_law_285 rfl (lv_at hl 0 rfl) ?_
          refine lv_iload_n hx hb d_law_286 rfl (lv_at hl 3 rfl) ?_
          refine lv_iconst (v := (nI 1)) hx hb d_law_287 (by decide) ?_
          refine my_iadd hx hb (x := i) (y := 1) d_law_288 ?_
          refine my_sld hx hb hX hbl hbA hS (i := i + 1) (by omega) (by omega) d_law_289 ?_
          refine lv_as (y := (nI 1000)) e1 ?_
          refine call_Vi (n := 1) (As := [.int (nI 1000)]) (ws' := cW k q (cpA 24 (hmN lg ld hm 0) wk) (hmN lg ld hm 0) lg (clr 24 dt) ld ct false true un sh ++ mW k q (cpA 24 hm wk) hm lg2 (clr 24 dt2) lo false false ct lf sh) ⟨hx, hb, hml, hown, htw⟩ (c_Model_start_w0 l D k q wk hm lg2 dt2 lo ct lf sh) (in_V tw_236 tw_237 tw_238 tw_11 tw_239) (by decide +kernel) ⟨rfl, rfl, Nat.le_of_ble_eq_true rfl, Nat.le_of_ble_eq_true rfl⟩ hK hN hP hD hS hA [7, 8, 9, 10, 11, 12] [0, 1, 2, 3, 4, 5, 6] [0, 1, 2, 3, 4, 5, 6, 7, 8, 9, 10, 11, 12] rfl rfl ([oL q, oD q ct false true un sh, aB k (q 2) (cpA 24 (hmN lg ld hm 0) wk), aB k (q 3) (hmN lg ld hm 0), aB k (q 4) lg, aZ k (q 5) (clr 24 dt), aN k (q 6) ld]) rfl rfl (by decide) rfl rfl 2 rfl 7 rfl hl.1 rfl rfl (Nat.le_of_ble_eq_true rfl) d_law_290 ⟨Nat.le_of_ble_eq_true rfl, Nat.le_of_ble_eq_true rfl⟩ (fun H locs hP hD hS => ?_)
          refine lv_icmp_eq (tgt := 321) hx hb d_law_293 (by decide) (fun c_293 => ?_) (fun c_293 => (c_293 rfl).elim)
          have hP : va_P D classes (cW k q (cpA 24 (hmN lg ld hm 0) wk) (hmN lg ld hm 0) lg (clr 24 dt) ld ct false true un sh ++ mW k q (cpA 24 hm wk) hm lg2 (clr 24 dt2) lo false false ct lf sh) H := hP
          have hD : va_D A (cW k q (cpA 24 (hmN lg ld hm 0) wk) (hmN lg ld hm 0) lg (clr 24 dt) ld ct false true un sh ++ mW k q (cpA 24 hm wk) hm lg2 (clr 24 dt2) lo false false ct lf sh) := hD
          rw [← hI.2.2.2.2.1] at hP hD
          have hP : va_P D classes (cW k q (cpA 24 hm wk) hm lg (clr 24 dt) ld ct false true un sh ++ mW k q (cpA 24 hm wk) hm lg2 (clr 24 dt) lo false false ct lf sh) H := hP
          have hD : va_D A (cW k q (cpA 24 hm wk) hm lg (clr 24 dt) ld ct false true un sh ++ mW k q (cpA 24 hm wk) hm lg2 (clr 24 dt) lo false false ct lf sh) := hD
          exact kk _ _ ⟨cpA 24 hm wk, hm, lg, clr 24 dt, ld, ct, false, true, un, sh, lg2, clr 24 dt, lo, lf, hP, hD, IV_fresh _ hI⟩ hS
        · have hE := hI.2.2.2.2.2.2 rfl
          have hP : va_P D classes (cW k q wk hm lg dt ld ct true false un sh ++ mW k q wk hm lg2 dt2 lo true true ct lf sh) H := hP
          have hD : va_D A (cW k q wk hm lg dt ld ct true false un sh ++ mW k q wk hm lg2 dt2 lo true true ct lf sh) := hD
          refine lv_aload_n hx hb d_law_275 rfl (lv_at hl 1 rfl) ?_
          refine lv_aload_n hx hb d_law_276 rfl (lv_at hl 0 rfl) ?_
          refine lv_iload_n hx hb d_law_277 rfl (lv_at hl 3 rfl) ?_
          refine lv_iconst (v := (nI 1)) hx hb d_law_278 (by decide) ?_
          refine my_iadd hx hb (x := i) (y := 1) d_law_279 ?_
          refine my_sld hx hb hX hbl hbA hS (i := i + 1) (by omega) (by omega) d_law_280 ?_
          refine lv_as (y := (nI 1000)) e1 ?_
          refine call_Vi (n := 1) (As := [.int (nI 1000)]) (ws' := cW k q (cpA 24 (hmN lg ld hm ct) wk) (hmN lg ld hm ct) lg (clr 24 dt) ld ct false true un sh ++ mW k q wk hm lg2 dt2 lo true true ct lf sh) ⟨hx, hb, hml, hown, htw⟩ (c_Log_start_w1 l D k q wk hm lg dt ld ct un sh hI.2.2.1 hI.2.2.2.1) (in_V tw_134 tw_135 tw_136 tw_9 tw_137) (by decide +kernel) ⟨rfl, rfl, Nat.le_of_ble_eq_true rfl, Nat.le_of_ble_eq_true rfl⟩ hK hN hP hD hS hA [0, 1, 2, 3, 4, 5, 6] [7, 8, 9, 10, 11, 12] [6, 7, 8, 9, 10, 11, 12, 0, 1, 2, 3, 4, 5] rfl rfl ([oM q true true ct lf sh, aB k (q 8) wk, aB k (q 9) hm, aB k (q 10) lg2, aZ k (q 11) dt2, aZ k (q 12) lo]) rfl rfl (by decide) rfl rfl 0 rfl 0 rfl hl.1 rfl rfl (Nat.le_of_ble_eq_true rfl) d_law_281 ⟨Nat.le_of_ble_eq_true rfl, Nat.le_of_ble_eq_true rfl⟩ (fun H locs hP hD hS => ?_)
          refine lv_aload_n hx hb d_law_284 rfl (lv_at hl 2 rfl) ?_
          refine lv_aload_n hx hb d_law_285 rfl (lv_at hl 0 rfl) ?_
          refine lv_iload_n hx hb d_law_286 rfl (lv_at hl 3 rfl) ?_
          refine lv_iconst (v := (nI 1)) hx hb d_law_287 (by decide) ?_
          refine my_iadd hx hb (x := i) (y := 1) d_law_288 ?_
          refine my_sld hx hb hX hbl hbA hS (i := i + 1) (by omega) (by omega) d_law_289 ?_
          refine lv_as (y := (nI 1000)) e1 ?_
          refine call_Vi (n := 1) (As := [.int (nI 1000)]) (ws' := cW k q (cpA 24 (hmN lg ld hm ct) wk) (hmN lg ld hm ct) lg (clr 24 dt) ld ct false true un sh ++ mW k q (cpA 24 (layN 24 lo (cnt lo 24) lg2 hm) wk) (layN 24 lo (cnt lo 24) lg2 hm) lg2 (clr 24 dt2) lo false false ct lf sh) ⟨hx, hb, hml, hown, htw⟩ (c_Model_start_w1 l D k q wk hm lg2 dt2 lo ct lf sh) (in_V tw_236 tw_237 tw_238 tw_11 tw_239) (by decide +kernel) ⟨rfl, rfl, Nat.le_of_ble_eq_true rfl, Nat.le_of_ble_eq_true rfl⟩ hK hN hP hD hS hA [7, 8, 9, 10, 11, 12] [0, 1, 2, 3, 4, 5, 6] [0, 1, 2, 3, 4, 5, 6, 7, 8, 9, 10, 11, 12] rfl rfl ([oL q, oD q ct false true un sh, aB k (q 2) (cpA 24 (hmN lg ld hm ct) wk), aB k (q 3) (hmN lg ld hm ct), aB k (q 4) lg, aZ k (q 5) (clr 24 dt), aN k (q 6) ld]) rfl rfl (by decide) rfl rfl 2 rfl 7 rfl hl.1 rfl rfl (Nat.le_of_ble_eq_true rfl) d_law_290 ⟨Nat.le_of_ble_eq_true rfl, Nat.le_of_ble_eq_true rfl⟩ (fun H locs hP hD hS => ?_)
          refine lv_icmp_eq (tgt := 321) hx hb d_law_293 (by decide) (fun c_293 => ?_) (fun c_293 => (c_293 rfl).elim)
          have hP : va_P D classes (cW k q (cpA 24 (hmN lg ld hm ct) wk) (hmN lg ld hm ct) lg (clr 24 dt) ld ct false true un sh ++ mW k q (cpA 24 (layN 24 lo (cnt lo 24) lg2 hm) wk) (layN 24 lo (cnt lo 24) lg2 hm) lg2 (clr 24 dt2) lo false false ct lf sh) H := hP
          have hD : va_D A (cW k q (cpA 24 (hmN lg ld hm ct) wk) (hmN lg ld hm ct) lg (clr 24 dt) ld ct false true un sh ++ mW k q (cpA 24 (layN 24 lo (cnt lo 24) lg2 hm) wk) (layN 24 lo (cnt lo 24) lg2 hm) lg2 (clr 24 dt2) lo false false ct lf sh) := hD
          rw [hmN_lay hE hm (Nat.le_refl _), ← hE.1, ← hI.2.2.2.2.1] at hP hD
          have hP : va_P D classes (cW k q (cpA 24 (layN 24 lo ct lg2 hm) wk) (layN 24 lo ct lg2 hm) lg (clr 24 dt) ld ct false true un sh ++ mW k q (cpA 24 (layN 24 lo ct lg2 hm) wk) (layN 24 lo ct lg2 hm) lg2 (clr 24 dt) lo false false ct lf sh) H := hP
          have hD : va_D A (cW k q (cpA 24 (layN 24 lo ct lg2 hm) wk) (layN 24 lo ct lg2 hm) lg (clr 24 dt) ld ct false true un sh ++ mW k q (cpA 24 (layN 24 lo ct lg2 hm) wk) (layN 24 lo ct lg2 hm) lg2 (clr 24 dt) lo false false ct lf sh) := hD
          exact kk _ _ ⟨cpA 24 (layN 24 lo ct lg2 hm) wk, layN 24 lo ct lg2 hm, lg, clr 24 dt, ld, ct, false, true, un, sh, lg2, clr 24 dt, lo, lf, hP, hD, IV_fresh _ hI⟩ hS
    · have hP : va_P D classes (cW k q wk hm lg dt ld ct mk false un sh ++ mW k q wk hm lg2 dt2 lo true mk ct lf sh) H := hP
      have hD : va_D A (cW k q wk hm lg dt ld ct mk false un sh ++ mW k q wk hm lg2 dt2 lo true mk ct lf sh) := hD
      refine lv_aload_n hx hb d_law_275 rfl (lv_at hl 1 rfl) ?_
      refine lv_aload_n hx hb d_law_276 rfl (lv_at hl 0 rfl) ?_
      refine lv_iload_n hx hb d_law_277 rfl (lv_at hl 3 rfl) ?_
      refine lv_iconst (v := (nI 1)) hx hb d_law_278 (by decide) ?_
      refine my_iadd hx hb (x := i) (y := 1) d_law_279 ?_
      refine my_sld hx hb hX hbl hbA hS (i := i + 1) (by omega) (by omega) d_law_280 ?_
      refine call_Vi (n := 1) (As := [.int (xs (i + 1))]) (ws' := cW k q wk hm lg dt ld ct mk false un sh ++ mW k q wk hm lg2 dt2 lo true mk ct lf sh) ⟨hx, hb, hml, hown, htw⟩ (c_Log_start_n l D k q wk hm lg dt ld ct mk un sh (xs (i + 1)) hp) (in_V tw_134 tw_135 tw_136 tw_9 tw_137) (by decide +kernel) ⟨rfl, rfl, Nat.le_of_ble_eq_true rfl, Nat.le_of_ble_eq_true rfl⟩ hK hN hP hD hS hA [0, 1, 2, 3, 4, 5, 6] [7, 8, 9, 10, 11, 12] [6, 7, 8, 9, 10, 11, 12, 0, 1, 2, 3, 4, 5] rfl rfl ([oM q true mk ct lf sh, aB k (q 8) wk, aB k (q 9) hm, aB k (q 10) lg2, aZ k (q 11) dt2, aZ k (q 12) lo]) rfl rfl (by decide) rfl rfl 0 rfl 0 rfl hl.1 rfl rfl (Nat.le_of_ble_eq_true rfl) d_law_281 ⟨Nat.le_of_ble_eq_true rfl, Nat.le_of_ble_eq_true rfl⟩ (fun H locs hP hD hS => ?_)
      refine lv_aload_n hx hb d_law_284 rfl (lv_at hl 2 rfl) ?_
      refine lv_aload_n hx hb d_law_285 rfl (lv_at hl 0 rfl) ?_
      refine lv_iload_n hx hb d_law_286 rfl (lv_at hl 3 rfl) ?_
      refine lv_iconst (v := (nI 1)) hx hb d_law_287 (by decide) ?_
      refine my_iadd hx hb (x := i) (y := 1) d_law_288 ?_
      refine my_sld hx hb hX hbl hbA hS (i := i + 1) (by omega) (by omega) d_law_289 ?_
      refine call_Vi (n := 1) (As := [.int (xs (i + 1))]) (ws' := cW k q wk hm lg dt ld ct mk false un sh ++ mW k q wk hm lg2 dt2 lo true mk ct lf sh) ⟨hx, hb, hml, hown, htw⟩ (c_Model_start_n l D k q wk hm lg2 dt2 lo mk ct lf sh (xs (i + 1)) hp) (in_V tw_236 tw_237 tw_238 tw_11 tw_239) (by decide +kernel) ⟨rfl, rfl, Nat.le_of_ble_eq_true rfl, Nat.le_of_ble_eq_true rfl⟩ hK hN hP hD hS hA [7, 8, 9, 10, 11, 12] [0, 1, 2, 3, 4, 5, 6] [0, 1, 2, 3, 4, 5, 6, 7, 8, 9, 10, 11, 12] rfl rfl ([oL q, oD q ct mk false un sh, aB k (q 2) wk, aB k (q 3) hm, aB k (q 4) lg, aZ k (q 5) dt, aN k (q 6) ld]) rfl rfl (by decide) rfl rfl 2 rfl 7 rfl hl.1 rfl rfl (Nat.le_of_ble_eq_true rfl) d_law_290 ⟨Nat.le_of_ble_eq_true rfl, Nat.le_of_ble_eq_true rfl⟩ (fun H locs hP hD hS => ?_)
      refine lv_icmp_eq (tgt := 321) hx hb d_law_293 (by decide) (fun c_293 => ?_) (fun c_293 => (c_293 rfl).elim)
      have hP : va_P D classes (cW k q wk hm lg dt ld ct mk false un sh ++ mW k q wk hm lg2 dt2 lo true mk ct lf sh) H := hP
      have hD : va_D A (cW k q wk hm lg dt ld ct mk false un sh ++ mW k q wk hm lg2 dt2 lo true mk ct lf sh) := hD
      exact kk _ _ ⟨wk, hm, lg, dt, ld, ct, mk, false, un, sh, lg2, dt2, lo, lf, hP, hD, hI⟩ hS
  · obtain ⟨e1, e2, hcl⟩ := hI.2.2.2.2.2.1 rfl
    have e2 := e2.symm
    subst e1; subst e2
    have hP : va_P D classes (cW k q wk hm lg dt ld ct false true un sh ++ mW k q wk hm lg2 dt lo false false ct lf sh) H := hP
    have hD : va_D A (cW k q wk hm lg dt ld ct false true un sh ++ mW k q wk hm lg2 dt lo false false ct lf sh) := hD
    refine lv_aload_n hx hb d_law_275 rfl (lv_at hl 1 rfl) ?_
    refine lv_aload_n hx hb d_law_276 rfl (lv_at hl 0 rfl) ?_
    refine lv_iload_n hx hb d_law_277 rfl (lv_at hl 3 rfl) ?_
    refine lv_iconst (v := (nI 1)) hx hb d_law_278 (by decide) ?_
    refine my_iadd hx hb (x := i) (y := 1) d_law_279 ?_
    refine my_sld hx hb hX hbl hbA hS (i := i + 1) (by omega) (by omega) d_law_280 ?_
    refine call_Vi (n := 1) (As := [.int (xs (i + 1))]) (ws' := cW k q wk hm lg dt ld ct false true un sh ++ mW k q wk hm lg2 dt lo false false ct lf sh) ⟨hx, hb, hml, hown, htw⟩ (c_Log_start_on l D k q wk hm lg dt ld ct false un sh (xs (i + 1))) (in_V tw_134 tw_135 tw_136 tw_9 tw_137) (by decide +kernel) ⟨rfl, rfl, Nat.le_of_ble_eq_true rfl, Nat.le_of_ble_eq_true rfl⟩ hK hN hP hD hS hA [0, 1, 2, 3, 4, 5, 6] [7, 8, 9, 10, 11, 12] [6, 7, 8, 9, 10, 11, 12, 0, 1, 2, 3, 4, 5] rfl rfl ([oM q false false ct lf sh, aB k (q 8) wk, aB k (q 9) hm, aB k (q 10) lg2, aZ k (q 11) dt, aZ k (q 12) lo]) rfl rfl (by decide) rfl rfl 0 rfl 0 rfl hl.1 rfl rfl (Nat.le_of_ble_eq_true rfl) d_law_281 ⟨Nat.le_of_ble_eq_true rfl, Nat.le_of_ble_eq_true rfl⟩ (fun H locs hP hD hS => ?_)
    refine lv_aload_n hx hb d_law_284 rfl (lv_at hl 2 rfl) ?_
    refine lv_aload_n hx hb d_law_285 rfl (lv_at hl 0 rfl) ?_
    refine lv_iload_n hx hb d_law_286 rfl (lv_at hl 3 rfl) ?_
    refine lv_iconst (v := (nI 1)) hx hb d_law_287 (by decide) ?_
    refine my_iadd hx hb (x := i) (y := 1) d_law_288 ?_
    refine my_sld hx hb hX hbl hbA hS (i := i + 1) (by omega) (by omega) d_law_289 ?_
    refine call_Vi (n := 1) (As := [.int (xs (i + 1))]) (ws' := cW k q wk hm lg dt ld ct false true un sh ++ mW k q wk hm lg2 dt lo false false ct lf sh) ⟨hx, hb, hml, hown, htw⟩ (c_Model_start_on l D k q wk hm lg2 dt lo false ct lf sh (xs (i + 1))) (in_V tw_236 tw_237 tw_238 tw_11 tw_239) (by decide +kernel) ⟨rfl, rfl, Nat.le_of_ble_eq_true rfl, Nat.le_of_ble_eq_true rfl⟩ hK hN hP hD hS hA [7, 8, 9, 10, 11, 12] [0, 1, 2, 3, 4, 5, 6] [0, 1, 2, 3, 4, 5, 6, 7, 8, 9, 10, 11, 12] rfl rfl ([oL q, oD q ct false true un sh, aB k (q 2) wk, aB k (q 3) hm, aB k (q 4) lg, aZ k (q 5) dt, aN k (q 6) ld]) rfl rfl (by decide) rfl rfl 2 rfl 7 rfl hl.1 rfl rfl (Nat.le_of_ble_eq_true rfl) d_law_290 ⟨Nat.le_of_ble_eq_true rfl, Nat.le_of_ble_eq_true rfl⟩ (fun H locs hP hD hS => ?_)
    refine lv_icmp_eq (tgt := 321) hx hb d_law_293 (by decide) (fun c_293 => ?_) (fun c_293 => (c_293 rfl).elim)
    have hP : va_P D classes (cW k q wk hm lg dt ld ct false true un sh ++ mW k q wk hm lg2 dt lo false false ct lf sh) H := hP
    have hD : va_D A (cW k q wk hm lg dt ld ct false true un sh ++ mW k q wk hm lg2 dt lo false false ct lf sh) := hD
    exact kk _ _ ⟨wk, hm, lg, dt, ld, ct, false, true, un, sh, lg2, dt, lo, lf, hP, hD, hI⟩ hS
set_option maxHeartbeats 4000000 in
set_option maxRecDepth 100000 in
theorem op_298 {p : Program} {l : Launch} {e : Env} {s : State} {m : MethodId} {below : List Frame} {meth : Method} {c : Code} {Q : State → Prop} {b L : Nat} {xs : Nat → Int32} {D : va_G} {k : Nat → ClassId} {q : Nat → Nat} {A : Nat → Prop} {i : Nat} {ls : Array Slot} {H : Heap} {locs : List Loc} (hL : L ≤ 2048) (C0 : lw_At p s m meth c b L xs) (hA : ∀ q, s.heap.size ≤ q → A q) (hbA : ¬ A b) (hi : i + 4 ≤ L) (hK : va_K D classes (tyK k) s) (hG : GS D k q A H) (hS : va_S A s.heap H locs) (hl : lv_has ls 4 [(0, .ref b), (1, .ref (q 0)), (2, .ref (q 7)), (3, .int (nI i))])
    (kk : ∀ (H : Heap) (locs : List Loc), GS D k q A H → va_S A s.heap H locs → W p l e room_1 s m #[Value.ref b] below meth c H locs 13 2421 Q (F0 m 321 ls [])) : W p l e room_1 s m #[Value.ref b] below meth c H locs 13 2421 Q (F0 m 298 ls []) := by
  obtain ⟨hx, hb, hr, hml, hown, hts, hX, hbl, hlocks, hgv⟩ := C0
  have htw := htw_of hts
  have hN := NW.of hts
  obtain ⟨wk, hm, lg, dt, ld, ct, mk, on, un, sh, lg2, dt2, lo, lf, hP, hD, hI⟩ := hG
  by_cases h0 : xs (i + 1) = nI 0
  · have hP : va_P D classes (cW k q wk hm lg dt ld ct mk on un sh ++ mW k q wk hm lg2 dt2 lo (!on) mk ct lf sh) H := hP
    have hD : va_D A (cW k q wk hm lg dt ld ct mk on un sh ++ mW k q wk hm lg2 dt2 lo (!on) mk ct lf sh) := hD
    refine lv_aload_n hx hb d_law_298 rfl (lv_at hl 1 rfl) ?_
    refine lv_aload_n hx hb d_law_299 rfl (lv_at hl 0 rfl) ?_
    refine lv_iload_n hx hb d_law_300 rfl (lv_at hl 3 rfl) ?_
    refine lv_iconst (v := (nI 1)) hx hb d_law_301 (by decide) ?_
    refine my_iadd hx hb (x := i) (y := 1) d_law_302 ?_
    refine my_sld hx hb hX hbl hbA hS (i := i + 1) (by omega) (by omega) d_law_303 ?_
    refine lv_as (y := (nI 0)) h0 ?_
    refine call_Vi (n := 1) (As := [.int (nI 0)]) (ws' := cW k q wk hm lg dt ld ct mk on un sh ++ mW k q wk hm lg2 dt2 lo (!on) mk ct lf sh) ⟨hx, hb, hml, hown, htw⟩ (c_Log_state_0 l D k q wk hm lg dt ld ct mk on un sh) (in_V tw_142 tw_143 tw_144 tw_9 tw_145) (by decide +kernel) ⟨rfl, rfl, Nat.le_of_ble_eq_true rfl, Nat.le_of_ble_eq_true rfl⟩ hK hN hP hD hS hA [0, 1, 2, 3, 4, 5, 6] [7, 8, 9, 10, 11, 12] [6, 7, 8, 9, 10, 11, 12, 0, 1, 2, 3, 4, 5] rfl rfl ([oM q (!on) mk ct lf sh, aB k (q 8) wk, aB k (q 9) hm, aB k (q 10) lg2, aZ k (q 11) dt2, aZ k (q 12) lo]) rfl rfl (by decide) rfl rfl 0 rfl 0 rfl hl.1 rfl rfl (Nat.le_of_ble_eq_true rfl) d_law_304 ⟨Nat.le_of_ble_eq_true rfl, Nat.le_of_ble_eq_true rfl⟩ (fun H locs hP hD hS => ?_)
    refine lv_aload_n hx hb d_law_307 rfl (lv_at hl 2 rfl) ?_
    refine lv_aload_n hx hb d_law_308 rfl (lv_at hl 0 rfl) ?_
    refine lv_iload_n hx hb d_law_309 rfl (lv_at hl 3 rfl) ?_
    refine lv_iconst (v := (nI 1)) hx hb d_law_310 (by decide) ?_
    refine my_iadd hx hb (x := i) (y := 1) d_law_311 ?_
    refine my_sld hx hb hX hbl hbA hS (i := i + 1) (by omega) (by omega) d_law_312 ?_
    refine lv_as (y := (nI 0)) h0 ?_
    refine call_Vi (n := 1) (As := [.int (nI 0)]) (ws' := cW k q wk hm lg dt ld ct mk on un sh ++ mW k q wk hm lg2 dt2 lo (!on) mk ct lf sh) ⟨hx, hb, hml, hown, htw⟩ (c_Model_state_0 l D k q wk hm lg2 dt2 lo (!on) mk ct lf sh) (in_V tw_244 tw_245 tw_246 tw_11 tw_247) (by decide +kernel) ⟨rfl, rfl, Nat.le_of_ble_eq_true rfl, Nat.le_of_ble_eq_true rfl⟩ hK hN hP hD hS hA [7, 8, 9, 10, 11, 12] [0, 1, 2, 3, 4, 5, 6] [0, 1, 2, 3, 4, 5, 6, 7, 8, 9, 10, 11, 12] rfl rfl ([oL q, oD q ct mk on un sh, aB k (q 2) wk, aB k (q 3) hm, aB k (q 4) lg, aZ k (q 5) dt, aN k (q 6) ld]) rfl rfl (by decide) rfl rfl 2 rfl 7 rfl hl.1 rfl rfl (Nat.le_of_ble_eq_true rfl) d_law_313 ⟨Nat.le_of_ble_eq_true rfl, Nat.le_of_ble_eq_true rfl⟩ (fun H locs hP hD hS => ?_)
    refine lv_icmp_eq (tgt := 321) hx hb d_law_316 (by decide) (fun c_316 => ?_) (fun c_316 => (c_316 (by rw [Bool.not_not])).elim)
    have hP : va_P D classes (cW k q wk hm lg dt ld ct mk on un sh ++ mW k q wk hm lg2 dt2 lo (!on) mk ct lf sh) H := hP
    have hD : va_D A (cW k q wk hm lg dt ld ct mk on un sh ++ mW k q wk hm lg2 dt2 lo (!on) mk ct lf sh) := hD
    exact kk _ _ ⟨wk, hm, lg, dt, ld, ct, mk, on, un, sh, lg2, dt2, lo, lf, hP, hD, hI⟩ hS
  · by_cases h1 : xs (i + 1) = nI 1
    · have hP : va_P D classes (cW k q wk hm lg dt ld ct mk on un sh ++ mW k q wk hm lg2 dt2 lo (!on) mk ct lf sh) H := hP
      have hD : va_D A (cW k q wk hm lg dt ld ct mk on un sh ++ mW k q wk hm lg2 dt2 lo (!on) mk ct lf sh) := hD
      refine lv_aload_n hx hb d_law_298 rfl (lv_at hl 1 rfl) ?_
      refine lv_aload_n hx hb d_law_299 rfl (lv_at hl 0 rfl) ?_
      refine lv_iload_n hx hb d_law_300 rfl (lv_at hl 3 rfl) ?_
      refine lv_iconst (v := (nI 1)) hx hb d_law_301 (by decide) ?_
      refine my_iadd hx hb (x := i) (y := 1) d_law_302 ?_
      refine my_sld hx hb hX hbl hbA hS (i := i + 1) (by omega) (by omega) d_law_303 ?_
      refine lv_as (y := (nI 1)) h1 ?_
      refine call_Vi (n := 1) (As := [.int (nI 1)]) (ws' := cW k q wk hm lg dt ld ct mk on un sh ++ mW k q wk hm lg2 dt2 lo (!on) mk ct lf sh) ⟨hx, hb, hml, hown, htw⟩ (c_Log_state_1 l D k q wk hm lg dt ld ct mk on un sh) (in_V tw_142 tw_143 tw_144 tw_9 tw_145) (by decide +kernel) ⟨rfl, rfl, Nat.le_of_ble_eq_true rfl, Nat.le_of_ble_eq_true rfl⟩ hK hN hP hD hS hA [0, 1, 2, 3, 4, 5, 6] [7, 8, 9, 10, 11, 12] [6, 7, 8, 9, 10, 11, 12, 0, 1, 2, 3, 4, 5] rfl rfl ([oM q (!on) mk ct lf sh, aB k (q 8) wk, aB k (q 9) hm, aB k (q 10) lg2, aZ k (q 11) dt2, aZ k (q 12) lo]) rfl rfl (by decide) rfl rfl 0 rfl 0 rfl hl.1 rfl rfl (Nat.le_of_ble_eq_true rfl) d_law_304 ⟨Nat.le_of_ble_eq_true rfl, Nat.le_of_ble_eq_true rfl⟩ (fun H locs hP hD hS => ?_)
      refine lv_aload_n hx hb d_law_307 rfl (lv_at hl 2 rfl) ?_
      refine lv_aload_n hx hb d_law_308 rfl (lv_at hl 0 rfl) ?_
      refine lv_iload_n hx hb d_law_309 rfl (lv_at hl 3 rfl) ?_
      refine lv_iconst (v := (nI 1)) hx hb d_law_310 (by decide) ?_
      refine my_iadd hx hb (x := i) (y := 1) d_law_311 ?_
      refine my_sld hx hb hX hbl hbA hS (i := i + 1) (by omega) (by omega) d_law_312 ?_
      refine lv_as (y := (nI 1)) h1 ?_
      refine call_Vi (n := 1) (As := [.int (nI 1)]) (ws' := cW k q wk hm lg dt ld ct mk on un sh ++ mW k q wk hm lg2 dt2 lo (!on) mk ct lf sh) ⟨hx, hb, hml, hown, htw⟩ (c_Model_state_1 l D k q wk hm lg2 dt2 lo (!on) mk ct lf sh) (in_V tw_244 tw_245 tw_246 tw_11 tw_247) (by decide +kernel) ⟨rfl, rfl, Nat.le_of_ble_eq_true rfl, Nat.le_of_ble_eq_true rfl⟩ hK hN hP hD hS hA [7, 8, 9, 10, 11, 12] [0, 1, 2, 3, 4, 5, 6] [0, 1, 2, 3, 4, 5, 6, 7, 8, 9, 10, 11, 12] rfl rfl ([oL q, oD q ct mk on un sh, aB k (q 2) wk, aB k (q 3) hm, aB k (q 4) lg, aZ k (q 5) dt, aN k (q 6) ld]) rfl rfl (by decide) rfl rfl 2 rfl 7 rfl hl.1 rfl rfl (Nat.le_of_ble_eq_true rfl) d_law_313 ⟨Nat.le_of_ble_eq_true rfl, Nat.le_of_ble_eq_true rfl⟩ (fun H locs hP hD hS => ?_)
      refine lv_icmp_eq (tgt := 321) hx hb d_law_316 (by decide) (fun c_316 => ?_) (fun c_316 => (c_316 rfl).elim)
      have hP : va_P D classes (cW k q wk hm lg dt ld ct mk on un sh ++ mW k q wk hm lg2 dt2 lo (!on) mk ct lf sh) H := hP
      have hD : va_D A (cW k q wk hm lg dt ld ct mk on un sh ++ mW k q wk hm lg2 dt2 lo (!on) mk ct lf sh) := hD
      exact kk _ _ ⟨wk, hm, lg, dt, ld, ct, mk, on, un, sh, lg2, dt2, lo, lf, hP, hD, hI⟩ hS
    · by_cases h2 : xs (i + 1) = nI 2
      · have hP : va_P D classes (cW k q wk hm lg dt ld ct mk on un sh ++ mW k q wk hm lg2 dt2 lo (!on) mk ct lf sh) H := hP
        have hD : va_D A (cW k q wk hm lg dt ld ct mk on un sh ++ mW k q wk hm lg2 dt2 lo (!on) mk ct lf sh) := hD
        refine lv_aload_n hx hb d_law_298 rfl (lv_at hl 1 rfl) ?_
        refine lv_aload_n hx hb d_law_299 rfl (lv_at hl 0 rfl) ?_
        refine lv_iload_n hx hb d_law_300 rfl (lv_at hl 3 rfl) ?_
        refine lv_iconst (v := (nI 1)) hx hb d_law_301 (by decide) ?_
        refine my_iadd hx hb (x := i) (y := 1) d_law_302 ?_
        refine my_sld hx hb hX hbl hbA hS (i := i + 1) (by omega) (by omega) d_law_303 ?_
        refine lv_as (y := (nI 2)) h2 ?_
        refine call_Vi (n := 1) (As := [.int (nI 2)]) (ws' := cW k q wk hm lg dt ld ct mk on un sh ++ mW k q wk hm lg2 dt2 lo (!on) mk ct lf sh) ⟨hx, hb, hml, hown, htw⟩ (c_Log_state_2 l D k q wk hm lg dt ld ct mk on un sh) (in_V tw_142 tw_143 tw_144 tw_9 tw_145) (by decide +kernel) ⟨rfl, rfl, Nat.le_of_ble_eq_true rfl, Nat.le_of_ble_eq_true rfl⟩ hK hN hP hD hS hA [0, 1, 2, 3, 4, 5, 6] [7, 8, 9, 10, 11, 12] [6, 7, 8, 9, 10, 11, 12, 0, 1, 2, 3, 4, 5] rfl rfl ([oM q (!on) mk ct lf sh, aB k (q 8) wk, aB k (q 9) hm, aB k (q 10) lg2, aZ k (q 11) dt2, aZ k (q 12) lo]) rfl rfl (by decide) rfl rfl 0 rfl 0 rfl hl.1 rfl rfl (Nat.le_of_ble_eq_true rfl) d_law_304 ⟨Nat.le_of_ble_eq_true rfl, Nat.le_of_ble_eq_true rfl⟩ (fun H locs hP hD hS => ?_)
        refine lv_aload_n hx hb d_law_307 rfl (lv_at hl 2 rfl) ?_
        refine lv_aload_n hx hb d_law_308 rfl (lv_at hl 0 rfl) ?_
        refine lv_iload_n hx hb d_law_309 rfl (lv_at hl 3 rfl) ?_
        refine lv_iconst (v := (nI 1)) hx hb d_law_310 (by decide) ?_
        refine my_iadd hx hb (x := i) (y := 1) d_law_311 ?_
        refine my_sld hx hb hX hbl hbA hS (i := i + 1) (by omega) (by omega) d_law_312 ?_
        refine lv_as (y := (nI 2)) h2 ?_
        refine call_Vi (n := 1) (As := [.int (nI 2)]) (ws' := cW k q wk hm lg dt ld ct mk on un sh ++ mW k q wk hm lg2 dt2 lo (!on) mk ct lf sh) ⟨hx, hb, hml, hown, htw⟩ (c_Model_state_2 l D k q wk hm lg2 dt2 lo (!on) mk ct lf sh) (in_V tw_244 tw_245 tw_246 tw_11 tw_247) (by decide +kernel) ⟨rfl, rfl, Nat.le_of_ble_eq_true rfl, Nat.le_of_ble_eq_true rfl⟩ hK hN hP hD hS hA [7, 8, 9, 10, 11, 12] [0, 1, 2, 3, 4, 5, 6] [0, 1, 2, 3, 4, 5, 6, 7, 8, 9, 10, 11, 12] rfl rfl ([oL q, oD q ct mk on un sh, aB k (q 2) wk, aB k (q 3) hm, aB k (q 4) lg, aZ k (q 5) dt, aN k (q 6) ld]) rfl rfl (by decide) rfl rfl 2 rfl 7 rfl hl.1 rfl rfl (Nat.le_of_ble_eq_true rfl) d_law_313 ⟨Nat.le_of_ble_eq_true rfl, Nat.le_of_ble_eq_true rfl⟩ (fun H locs hP hD hS => ?_)
        refine lv_icmp_eq (tgt := 321) hx hb d_law_316 (by decide) (fun c_316 => ?_) (fun c_316 => (c_316 rfl).elim)
        have hP : va_P D classes (cW k q wk hm lg dt ld ct mk on un sh ++ mW k q wk hm lg2 dt2 lo (!on) mk ct lf sh) H := hP
        have hD : va_D A (cW k q wk hm lg dt ld ct mk on un sh ++ mW k q wk hm lg2 dt2 lo (!on) mk ct lf sh) := hD
        exact kk _ _ ⟨wk, hm, lg, dt, ld, ct, mk, on, un, sh, lg2, dt2, lo, lf, hP, hD, hI⟩ hS
      · have hP : va_P D classes (cW k q wk hm lg dt ld ct mk on un sh ++ mW k q wk hm lg2 dt2 lo (!on) mk ct lf sh) H := hP
        have hD : va_D A (cW k q wk hm lg dt ld ct mk on un sh ++ mW k q wk hm lg2 dt2 lo (!on) mk ct lf sh) := hD
        refine lv_aload_n hx hb d_law_298 rfl (lv_at hl 1 rfl) ?_
        refine lv_aload_n hx hb d_law_299 rfl (lv_at hl 0 rfl) ?_
        refine lv_iload_n hx hb d_law_300 rfl (lv_at hl 3 rfl) ?_
        refine lv_iconst (v := (nI 1)) hx hb d_law_301 (by decide) ?_
        refine my_iadd hx hb (x := i) (y := 1) d_law_302 ?_
        refine my_sld hx hb hX hbl hbA hS (i := i + 1) (by omega) (by omega) d_law_303 ?_
        refine call_Vi (n := 1) (As := [.int (xs (i + 1))]) (ws' := cW k q wk hm lg dt ld ct mk on un sh ++ mW k q wk hm lg2 dt2 lo (!on) mk ct lf sh) ⟨hx, hb, hml, hown, htw⟩ (c_Log_state_n l D k q wk hm lg dt ld ct mk on un sh (xs (i + 1)) h0 h1 h2) (in_V tw_142 tw_143 tw_144 tw_9 tw_145) (by decide +kernel) ⟨rfl, rfl, Nat.le_of_ble_eq_true rfl, Nat.le_of_ble_eq_true rfl⟩ hK hN hP hD hS hA [0, 1, 2, 3, 4, 5, 6] [7, 8, 9, 10, 11, 12] [6, 7, 8, 9, 10, 11, 12, 0, 1, 2, 3, 4, 5] rfl rfl ([oM q (!on) mk ct lf sh, aB k (q 8) wk, aB k (q 9) hm, aB k (q 10) lg2, aZ k (q 11) dt2, aZ k (q 12) lo]) rfl rfl (by decide) rfl rfl 0 rfl 0 rfl hl.1 rfl rfl (Nat.le_of_ble_eq_true rfl) d_law_304 ⟨Nat.le_of_ble_eq_true rfl, Nat.le_of_ble_eq_true rfl⟩ (fun H locs hP hD hS => ?_)
        refine lv_aload_n hx hb d_law_307 rfl (lv_at hl 2 rfl) ?_
        refine lv_aload_n hx hb d_law_308 rfl (lv_at hl 0 rfl) ?_
        refine lv_iload_n hx hb d_law_309 rfl (lv_at hl 3 rfl) ?_
        refine lv_iconst (v := (nI 1)) hx hb d_law_310 (by decide) ?_
        refine my_iadd hx hb (x := i) (y := 1) d_law_311 ?_
        refine my_sld hx hb hX hbl hbA hS (i := i + 1) (by omega) (by omega) d_law_312 ?_
        refine call_Vi (n := 1) (As := [.int (xs (i + 1))]) (ws' := cW k q wk hm lg dt ld ct mk on un sh ++ mW k q wk hm lg2 dt2 lo (!on) mk ct lf sh) ⟨hx, hb, hml, hown, htw⟩ (c_Model_state_n l D k q wk hm lg2 dt2 lo (!on) mk ct lf sh (xs (i + 1)) h0 h1 h2) (in_V tw_244 tw_245 tw_246 tw_11 tw_247) (by decide +kernel) ⟨rfl, rfl, Nat.le_of_ble_eq_true rfl, Nat.le_of_ble_eq_true rfl⟩ hK hN hP hD hS hA [7, 8, 9, 10, 11, 12] [0, 1, 2, 3, 4, 5, 6] [0, 1, 2, 3, 4, 5, 6, 7, 8, 9, 10, 11, 12] rfl rfl ([oL q, oD q ct mk on un sh, aB k (q 2) wk, aB k (q 3) hm, aB k (q 4) lg, aZ k (q 5) dt, aN k (q 6) ld]) rfl rfl (by decide) rfl rfl 2 rfl 7 rfl hl.1 rfl rfl (Nat.le_of_ble_eq_true rfl) d_law_313 ⟨Nat.le_of_ble_eq_true rfl, Nat.le_of_ble_eq_true rfl⟩ (fun H locs hP hD hS => ?_)
        refine lv_icmp_eq (tgt := 321) hx hb d_law_316 (by decide) (fun c_316 => ?_) (fun c_316 => (c_316 rfl).elim)
        have hP : va_P D classes (cW k q wk hm lg dt ld ct mk on un sh ++ mW k q wk hm lg2 dt2 lo (!on) mk ct lf sh) H := hP
        have hD : va_D A (cW k q wk hm lg dt ld ct mk on un sh ++ mW k q wk hm lg2 dt2 lo (!on) mk ct lf sh) := hD
        exact kk _ _ ⟨wk, hm, lg, dt, ld, ct, mk, on, un, sh, lg2, dt2, lo, lf, hP, hD, hI⟩ hS
end
section
set_option maxHeartbeats 4000000 in
set_option maxRecDepth 100000 in
/-- THE LAW'S LOOP -/
theorem law_loop {p : Program} {l : Launch} {e : Env} {s : State} {m : MethodId} {below : List Frame} {meth : Method} {c : Code} {b L : Nat} {xs : Nat → Int32} {D : va_G} {k : Nat → ClassId} {q : Nat → Nat} (hL : L ≤ 2048) (C0 : lw_At p s m meth c b L xs) (hK : va_K D classes (tyK k) s) :
    ∀ (n i : Nat), i ≤ L + 3 → L + 4 ≤ i + n → ∀ (H : Heap) (locs : List Loc) (ls : Array Slot), GS D k q (fun q : Nat => s.heap.size ≤ q) H → va_S (fun q : Nat => s.heap.size ≤ q) s.heap H locs → lv_has ls 4 [(0, .ref b), (1, .ref (q 0)), (2, .ref (q 7)), (3, .int (nI i))] → W p l e room_1 s m #[Value.ref b] below meth c H locs 13 2421 (lw_Z below #[Value.ref b] s) (F0 m 18 ls []) := by
  obtain ⟨hx, hb, hr, hml, hown, hts, hX, hbl, hlocks, hgv⟩ := id C0
  have hA : ∀ q : Nat, s.heap.size ≤ q → (fun q : Nat => s.heap.size ≤ q) q := fun _ h => h
  have hbA : ¬ (fun q : Nat => s.heap.size ≤ q) b := Nat.not_le.mpr hbl
  intro n
  induction n with
  | zero =>
    intro i h1 h2
    exact absurd h2 (by omega)
  | succ n ih =>
    intro i h1 h2 H locs ls hG hS hl
    refine lv_iload_n hx hb d_law_18 rfl (lv_at hl 3 rfl) ?_
    refine lv_aload_n hx hb d_law_19 rfl (lv_at hl 0 rfl) ?_
    refine va_slen hx hb hX hbl hbA hS d_law_20 ?_
    refine lv_as (y := nI L) rfl ?_
    refine lv_iconst (v := nI 4) hx hb d_law_21 (by decide) ?_
    refine lv_isub hx hb d_law_22 ?_
    refine lv_icmp_gt (tgt := 327) hx hb d_law_23 (by decide) (fun c_23 => ?_) (fun c_23 => ?_)
    · refine lv_iconst (v := 1) hx hb d_law_327 (by decide) ?_
      refine va_forget (fun q hq => hS.2.2 q hq) ?_
      exact lw_ret hx hb hr hlocks d_law_328
    · have hi : i + 4 ≤ L := stop_gt hL (by omega) c_23
      have next : ∀ (H : Heap) (locs : List Loc), GS D k q (fun q : Nat => s.heap.size ≤ q) H → va_S (fun q : Nat => s.heap.size ≤ q) s.heap H locs → W p l e room_1 s m #[Value.ref b] below meth c H locs 13 2421 (lw_Z below #[Value.ref b] s) (F0 m 321 ls []) := by
        intro H locs hG hS
        refine lv_iinc (v := nI (i + 4)) (lv' := [(3, .int (nI (i + 4))), (0, .ref b), (1, .ref (q 0)), (2, .ref (q 7))]) hx hb d_law_321 hl (k := 3) rfl (nI_add _ 4) (by decide) rfl (fun ls hl => ?_)
        refine lv_goto (tgt := 18) hx hb d_law_324 (by decide) ?_
        exact ih (i + 4) (by omega) (by omega) H locs ls hG hS (lv_sub hl [1, 2, 3, 0] rfl)
      refine lv_aload_n hx hb d_law_26 rfl (lv_at hl 0 rfl) ?_
      refine lv_iload_n hx hb d_law_27 rfl (lv_at hl 3 rfl) ?_
      refine my_sld hx hb hX hbl hbA hS (i := i) (by omega) (by omega) d_law_28 ?_
      refine lv_bipush (v := 15) hx hb d_law_29 (by decide) ?_
      refine lv_iand hx hb d_law_31 ?_
      obtain ⟨j, hj, ej⟩ := pk_andE (xs i) (m := 15) 4 (by decide)
      refine lv_as (y := nI j) ej ?_
      rcases (show j = 0 ∨ j = 1 ∨ j = 2 ∨ j = 3 ∨ j = 4 ∨ j = 5 ∨ j = 6 ∨ j = 7 ∨ j = 8 ∨ 9 ≤ j by omega) with rfl | rfl | rfl | rfl | rfl | rfl | rfl | rfl | rfl | h9
      · refine lv_tableIn (off := 52) (tgt := 84) hx hb d_law_32 (by decide) (by decide) (by decide) (by decide) ?_
        exact op_84 hL C0 hA hbA hi hK hG hS hl next
      · refine lv_tableIn (off := 95) (tgt := 127) hx hb d_law_32 (by decide) (by decide) (by decide) (by decide) ?_
        exact op_127 hL C0 hA hbA hi hK hG hS hl next
      · refine lv_tableIn (off := 128) (tgt := 160) hx hb d_law_32 (by decide) (by decide) (by decide) (by decide) ?_
        exact op_160 hL C0 hA hbA hi hK hG hS hl next
      · refine lv_tableIn (off := 161) (tgt := 193) hx hb d_law_32 (by decide) (by decide) (by decide) (by decide) ?_
        exact op_193 hL C0 hA hbA hi hK hG hS hl next
      · refine lv_tableIn (off := 184) (tgt := 216) hx hb d_law_32 (by decide) (by decide) (by decide) (by decide) ?_
        exact op_216 hL C0 hA hbA hi hK hG hS hl next
      · refine lv_tableIn (off := 197) (tgt := 229) hx hb d_law_32 (by decide) (by decide) (by decide) (by decide) ?_
        exact op_229 hL C0 hA hbA hi hK hG hS hl next
      · refine lv_tableIn (off := 210) (tgt := 242) hx hb d_law_32 (by decide) (by decide) (by decide) (by decide) ?_
        exact op_242 hL C0 hA hbA hi hK hG hS hl next
      · refine lv_tableIn (off := 243) (tgt := 275) hx hb d_law_32 (by decide) (by decide) (by decide) (by decide) ?_
        exact op_275 hL C0 hA hbA hi hK hG hS hl next
      · refine lv_tableIn (off := 266) (tgt := 298) hx hb d_law_32 (by decide) (by decide) (by decide) (by decide) ?_
        exact op_298 hL C0 hA hbA hi hK hG hS hl next
      · refine lv_tableOut (tgt := 321) hx hb d_law_32 (Or.inr (by rw [nI_toInt (by omega)]; omega)) (by decide) ?_
        exact next _ _ hG hS
set_option maxHeartbeats 4000000 in
set_option maxRecDepth 100000 in
/-- THE LAW, from its entry -/
theorem whole_start {p : Program} {e : Env} {s : State} {m : MethodId} {below : List Frame} {meth : Method} {c : Code} (l : Launch) {b L : Nat} {xs : Nat → Int32} (hL : L ≤ 2048) (C0 : lw_At p s m meth c b L xs) : W p l e room_1 s m #[Value.ref b] below meth c s.heap [] 0 0 (lw_Z below #[Value.ref b] s) (entryFrame m ([Value.ref b] : List Value).toArray 4) := by
  obtain ⟨hx, hb, hr, hml, hown, hts, hX, hbl, hlocks, hgv⟩ := id C0
  have htw := htw_of hts
  have hN := NW.of hts
  have hA : ∀ q : Nat, s.heap.size ≤ q → (fun q : Nat => s.heap.size ≤ q) q := fun _ h => h
  obtain ⟨c0, iS0, hKn0⟩ := u_known (C := R_Log) (T := F_Log) (N := 1) (n := 1) htw i_Log (htw _ tw_14)
  obtain ⟨c1, iS1, hKn1⟩ := u_known (C := R_Disk) (T := F_Disk) (N := 10) (n := 10) htw i_Disk (htw _ tw_22)
  obtain ⟨c2, iS2, hKn2⟩ := u_known (C := R_Model) (T := F_Model) (N := 10) (n := 10) htw i_Model (htw _ tw_147)
  obtain ⟨D, hKc⟩ : ∃ D : va_G, ∀ (k : Nat) (q : vw_C), classes[k]? = some q → u_Kn s q.1 q.2.1 q.2.2 (D.1 k) (D.2 k) := by
    refine ⟨(fun k => if k = 0 then c0 else if k = 1 then c1 else c2, fun k => if k = 0 then iS0 else if k = 1 then iS1 else iS2), ?_⟩
    intro k q hq
    match k, hq with
    | 0, hq => cases hq; exact hKn0
    | 1, hq => cases hq; exact hKn1
    | 2, hq => cases hq; exact hKn2
    | k + 3, hq => simp [classes] at hq
  have hS : va_S (fun q : Nat => s.heap.size ≤ q) s.heap s.heap [] := va_S.rf
  have hK : va_K D classes [] s := ⟨hKc, fun k q h => by simp at h⟩
  have hP : va_P D classes [] s.heap := fun k q h => by simp at h
  have hD : va_D (fun q : Nat => s.heap.size ≤ q) [] := ⟨fun i j p q h => by simp at h, fun k q h => by simp at h⟩
  have hl := lv_entry ([.ref b]) (n := 4) (Nat.le_of_ble_eq_true rfl)
  rw [lg_entry_eq]
  generalize (lg_sl ([.ref b]) ++ List.replicate (4 - (lg_sl ([.ref b])).length) Slot.unset).toArray = ls at hl ⊢
  have hl : lv_has ls 4 [(0, .ref b)] := hl
  refine va_new (ci := 0) (fs := [.null]) (C := R_Log) (T := F_Log) (N := 1) hx hb htw i_Log t_Log t_Log_ok hown (htw _ tw_13) (htw _ tw_14) (htw _ tw_9) hK hP hD hS hA rfl (fun j hj => by rcases (show j = 0 by omega) with rfl <;> rfl) (Nat.le_of_ble_eq_true rfl) (Nat.le_of_ble_eq_true rfl) d_law_0 (fun a H hP hD hS => ?_)
  have hP : va_P D classes [(a, .inr (0, [.null]))] H := hP
  have hD : va_D (fun q : Nat => s.heap.size ≤ q) [(a, .inr (0, [.null]))] := hD
  refine W.widen (k := 1) (n := 1) (Nat.le_of_ble_eq_true rfl) (Nat.le_of_ble_eq_true rfl) ?_
  refine lv_dup hx hb d_law_3 rfl ?_
  have hFc := va_free (wc := [(a, .inr (0, [.null]))]) hD hS hA [0] rfl
  refine va_callv (va_runI (As := []) (rest := [.ref a]) ⟨hx, hb, hml, hown, htw⟩ (c_Log_init l D a H.size) (cwI 0 htw (gTW (List.forall_mem_cons.mpr ⟨tw_17, fun _ h => h⟩)) rfl rfl rfl (htw _ tw_9) (htw _ tw_15) (htw _ tw_16) rfl (by decide +kernel) ⟨Nat.le_of_ble_eq_true rfl, Nat.le_of_ble_eq_true rfl⟩) ⟨PW_blind, fun U hU hW => ⟨rfl, PW_here hK hN hP hD [0] rfl rfl rfl hU hW⟩⟩ rfl rfl hl.1 rfl (lv_room (Nat.le_of_ble_eq_true rfl)) d_law_4 ⟨Nat.le_of_ble_eq_true rfl, Nat.le_of_ble_eq_true rfl⟩) hS (fun q _ h => hFc q h) hFc (fun u t H1 locs ht hvm hw hB hz1 hk1 hS => ?_)
  obtain ⟨k, q⟩ := u
  obtain ⟨hP1, hK1, hD1⟩ := hB
  rw [ht] at hP1
  have hK : va_K D classes (tyK k) s := va_K.moved hvm.symm hK1
  have hw : q 0 = a := hw
  subst hw
  obtain ⟨hP, hD⟩ := va_join (wr := []) (w1 := cW k q zB zB zB zZ zN 0 false true 0 0) hP hD [0] [] rfl rfl (by decide) (by decide) hk1 hFc hP1 hD1
  generalize H1 = H at hP hS ⊢
  have hP : va_P D classes (cW k q zB zB zB zZ zN 0 false true 0 0) H := hP
  have hD : va_D (fun q : Nat => s.heap.size ≤ q) (cW k q zB zB zB zZ zN 0 false true 0 0) := hD
  refine W.widen (k := 7) (n := 1211) (Nat.le_of_ble_eq_true rfl) (Nat.le_of_ble_eq_true rfl) ?_
  refine lv_astore_n (lv' := [(1, .ref (q 0)), (0, .ref b)]) hx hb d_law_7 rfl hl (by decide) rfl (fun ls hl => ?_)
  refine va_new (ci := 2) (fs := f0_Model) (C := R_Model) (T := F_Model) (N := 10) hx hb htw i_Model t_Model t_Model_ok hown (htw _ tw_146) (htw _ tw_147) (htw _ tw_11) hK hP hD hS hA rfl (fun j hj => by rcases (show j = 0 ∨ j = 1 ∨ j = 2 ∨ j = 3 ∨ j = 4 ∨ j = 5 ∨ j = 6 ∨ j = 7 ∨ j = 8 ∨ j = 9 by omega) with rfl | rfl | rfl | rfl | rfl | rfl | rfl | rfl | rfl | rfl <;> rfl) (Nat.le_of_ble_eq_true rfl) (Nat.le_of_ble_eq_true rfl) d_law_8 (fun a H hP hD hS => ?_)
  have hP : va_P D classes (cW k q zB zB zB zZ zN 0 false true 0 0 ++ [(a, .inr (2, f0_Model))]) H := hP
  have hD : va_D (fun q : Nat => s.heap.size ≤ q) (cW k q zB zB zB zZ zN 0 false true 0 0 ++ [(a, .inr (2, f0_Model))]) := hD
  refine W.widen (k := 8) (n := 1221) (Nat.le_of_ble_eq_true rfl) (Nat.le_of_ble_eq_true rfl) ?_
  refine lv_dup hx hb d_law_11 rfl ?_
  have hFc := va_free (wc := [(a, .inr (2, f0_Model))]) hD hS hA [7] rfl
  refine va_callv (va_runI (As := []) (rest := [.ref a]) ⟨hx, hb, hml, hown, htw⟩ (c_Model_init l D k a H.size) (cwI 0 htw (gTW (List.forall_mem_cons.mpr ⟨tw_150, fun _ h => h⟩)) rfl rfl rfl (htw _ tw_11) (htw _ tw_148) (htw _ tw_149) rfl (by decide +kernel) ⟨Nat.le_of_ble_eq_true rfl, Nat.le_of_ble_eq_true rfl⟩) ⟨PW_blind, fun U hU hW => ⟨rfl, PW_here hK hN hP hD [7] rfl rfl rfl hU hW⟩⟩ rfl rfl hl.1 rfl (lv_room (Nat.le_of_ble_eq_true rfl)) d_law_12 ⟨Nat.le_of_ble_eq_true rfl, Nat.le_of_ble_eq_true rfl⟩) hS (fun q _ h => hFc q h) hFc (fun u t H1 locs ht hvm hw hB hz1 hk1 hS => ?_)
  obtain ⟨hP1, hK1, hD1⟩ := hB
  rw [ht] at hP1
  have hw : u 7 = a := hw
  subst hw
  obtain ⟨hP, hD⟩ := va_join (wr := cW k q zB zB zB zZ zN 0 false true 0 0) (w1 := mW k u zB zB zB zZ zZ false false 0 (nI 0) 0) hP hD [7] [0, 1, 2, 3, 4, 5, 6] rfl rfl (by decide) (by decide) hk1 hFc hP1 hD1
  generalize H1 = H at hP hS ⊢
  refine W.widen (k := 13) (n := 2421) (Nat.le_of_ble_eq_true rfl) (Nat.le_of_ble_eq_true rfl) ?_
  refine lv_astore_n (lv' := [(2, .ref (u 7)), (1, .ref (q 0)), (0, .ref b)]) hx hb d_law_15 rfl hl (by decide) rfl (fun ls hl => ?_)
  refine lv_iconst (v := nI 0) hx hb d_law_16 (by decide) ?_
  refine lv_istore_n (lv' := [(3, .int (nI 0)), (2, .ref (u 7)), (1, .ref (q 0)), (0, .ref b)]) hx hb d_law_17 rfl hl (by decide) rfl (fun ls hl => ?_)
  exact law_loop (q := fun j => match j with | 0 => q 0 | 1 => q 1 | 2 => q 2 | 3 => q 3 | 4 => q 4 | 5 => q 5 | 6 => q 6 | j => u j) hL C0 hK (L + 4) 0 (by omega) (by omega) H locs ls ⟨zB, zB, zB, zZ, zN, 0, false, true, 0, 0, zB, zZ, zZ, nI 0, hP, hD, IV_0⟩ hS (lv_sub hl [3, 2, 1, 0] rfl)
set_option maxHeartbeats 4000000 in
theorem lw_walk (l : Launch) (b : Addr) (xs : List Int32) : MetFree l x (headSpec (Jvm.Cond.code x code maxLocals ret :: tables_1) room_1) (lw_P b xs) (fun _ _ _ _ _ => True) lw_Q := by
  refine MetFree.of_bodyS (code := code) (maxLocals := maxLocals) (ret := ret) (by decide) ?_ ?_
  · intro args s m h hn
    obtain ⟨meth, c, h1, h2, h3, h4, h5, h6, -, -⟩ := Cond.code_spec hn (atoms_spec (ws := Jvm.Cond.code x code maxLocals ret :: tables_1) h _ List.mem_cons_self)
    exact ⟨meth, c, h1, h2, h3, h4, h5, h6⟩
  · intro p e s m args below meth c s₁ B hml0 hP _
    obtain ⟨rfl, hx, hbd, hgv⟩ := hP
    obtain ⟨scr, harrAt, hlist, hof, hsmall⟩ := hx
    obtain ⟨hcb, hkn, -, -⟩ := State.arrayAt?_spec harrAt
    have hown : s.vm.findClass R_law = some m.cls := findClass_of_methodNamed B.named
    have hts0 : ∀ c ∈ (Jvm.Cond.code x code maxLocals ret :: tables_1), c.before #[Value.ref b] s = true := atoms_spec (ws := Jvm.Cond.code x code maxLocals ret :: tables_1) B.pre
    have hts : ∀ w ∈ lw_tbl, w.before #[Value.ref b] s = true := k2_hts_sels lw_privs (fun w hw => hts0 w (List.mem_cons_of_mem _ hw)) lw_privs_ok
    have hml : c.maxLocals = 4 := B.maxLocals_eq (hts0 _ List.mem_cons_self)
    have X₀ : Stand p l e room_1 s m #[Value.ref b] below meth c s₁ [] 0 0 := Stand.of_body B
    have hh0 : s₁.heap = s.heap := by rw [B.state]; rfl
    have hsz : scr.slots.size = xs.length := by rw [← Array.length_toList, hlist, List.length_map]
    have hval : ∀ j : Nat, j < xs.length → scr.slots[j]? = some (.int (xs.getD j 0)) := fun j hj => by
      rw [← Array.getElem?_toList, hlist]
      simp [hj]
    have hbl : b < s.heap.size := (Array.getElem?_eq_some_iff.mp hcb).1
    have hX : va_X b xs.length (fun j => xs.getD j 0) s s.heap := ⟨scr, hcb, hof, hkn, hsz, hval⟩
    have K : W p l e room_1 s m #[Value.ref b] below meth c s₁.heap [] 0 0 (lw_Z below #[Value.ref b] s) (entryFrame m ([Value.ref b] : List Value).toArray 4) := by
      rw [hh0]
      exact whole_start l hbd ⟨B.exec, B.bytes, B.returns, hml, hown, hts, hX, hbl, B.notSynchronized, hgv⟩
    obtain ⟨t, a1, o, b1, b2, b3⟩ := K s₁ rfl X₀
    exact ⟨t, o, a1, b1, b2, b3⟩
theorem lw_pre_spec {args : Array Value} {s : State} (h : (Jvm.Cond.and given_1 narrow_1).before args s = true) (hr : rest_1_c.before args s = true) : ∃ (b : Addr) (xs : List Int32), lw_P b xs args s := by
  have hs := flat_of_before _ h
  have hq := flat_of_before _ hr
  have hc : (Cond.count 1).before args s = true := hs _ (by decide +kernel)
  have harr : (Cond.arrayOf (.arg 0) .int).before args s = true := hs _ (by decide +kernel)
  have hle : (Cond.le (.length (.arg 0)) (.int 2048)).before args s = true := hs _ (by decide +kernel)
  have hlen : (Cond.isInt (.length (.arg 0))).before args s = true := hq _ (by decide +kernel)
  have hall : (Cond.all (.arg 0) (.isInt (.elem (.arg 0) (.index 0)))).before args s = true := hq _ (by decide +kernel)
  obtain ⟨b, xs, hb, hx⟩ := State.ints_of_pre rfl harr hlen hall
  have hsm : xs.length < 2 ^ 31 := hx.choose_spec.2.2.2
  have hev : (Term.length (.arg 0)).eval args s none [] s = some (.int xs.length.toInt32) := hx.length_eval hb
  have hv := Cond.le_ints hev (show (Term.int 2048).eval args s none [] s = some (.int 2048) from rfl)
  have hd : xs.length.toInt32 ≤ 2048 := by
    simpa [Cond.before, Cond.holds, hv] using hle
  have hN : xs.length ≤ 2048 := (Int32.ofNat_le_ofNat hsm (by decide)).mp (show Int32.ofNat xs.length ≤ Int32.ofNat 2048 from hd)
  exact ⟨b, xs, Cond.one_arg hc (show args[0]? = some (.ref b) from hb), hx, hN, h⟩
theorem lw_comes (l : Launch) : Comes l x (Jvm.Cond.code x code maxLocals ret :: tables_1) room_1 (fun tb e args s => Calls_1 tb e args s ∧ rest_1 tb e args s ∧ Pre_1 tb e args s)
    (fun _ _ args s o t => lw_Q args s o t) := by
  intro p e ha hc hk s m args below hf hfit hheap happ hpre
  obtain ⟨b, xs, hP⟩ := lw_pre_spec hpre.2.2 hpre.2.1
  obtain ⟨k, o, h1, h2, h3, hQ⟩ := lw_walk l b xs p e ha hc hk s m args below hf ((Spec.applies_iff_loose hf).mp happ).1 hP trivial
  exact ⟨k, o, h1, h2, h3, hQ⟩
theorem lw_frame {s t : State} {o : Outcome} {args : Array Value} (h : Framed s o t [] 13 2421) :
    Framed s o t (fieldLocs frame_1_writes args s ++ arrayLocs frame_1_arrays args s ++ staticLocs frame_1_statics s) 13 2421 := h
theorem lw_limb (L : Cond) (hL : ∀ (args : Array Value) (s t : State), L.after args s (.returned (some (.int 1))) t = true) :
    ArmFor flags0 classFile x code maxLocals ret World_1 tables_1 room_1 Calls_1 rest_1 Pre_1
      (fun tb e a s o t => postC L tb e a s o t ∧ Framed s o t (fieldLocs frame_1_writes a s ++ arrayLocs frame_1_arrays a s ++ staticLocs frame_1_statics s) 13 2421) := by
  intro l _ _ _ p e ha hc hk s m args below hf hfit hheap happ hpre
  obtain ⟨k, o, h1, h2, h3, rfl, hF⟩ := lw_comes l p e ha hc hk s m args below hf hfit hheap happ hpre
  exact ⟨k, _, h1, h2, h3, hL args s _, lw_frame hF⟩
theorem i_vc : Claimed_1_1 ∧ Claimed_1_2 := ⟨lw_limb limb_1_1 (fun args s t => by simp [limb_1_1, Cond.after, Cond.holds, Cond.value]), lw_limb limb_1_2 (fun args s t => Cond.after_iff.mpr (by
  first | (rw [show limb_1_2 = Cond.eq .result (.int 1) from rfl, Cond.eq_ints (x := 1) (y := 1) rfl rfl]; simp; done) | (simp [limb_1_2, Cond.value, Term.eval]; done)))⟩
end
