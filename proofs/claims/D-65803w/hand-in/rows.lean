section
-- ===== PART A: goes FIRST, ahead of the names: the tables' words, and 'selects' of the private methods out of them =====
/-- a private method of a class that the tables say can be made, by its rows of tables_1 -/
def lw_okq (q : MethodName × Nat) : Prop := (q.1.cls ≠ "java/lang/invoke/MethodHandle" ∧ q.1.cls ≠ "java/lang/invoke/VarHandle") ∧ Cond.instantiable q.1.cls q.2 ∈ tables_1 ∧ Cond.privateMethod q.1 ∈ tables_1 ∧ Cond.instanceMethod q.1 ∈ tables_1
theorem lw_p0 : lw_okq (⟨"java/lang/Throwable", "fillInStackTrace", "(I)Ljava/lang/Throwable;"⟩, 6) := ⟨⟨by decide +kernel, by decide +kernel⟩, List.mem_of_getElem? (i := 134) (by decide +kernel), List.mem_of_getElem? (i := 132) (by decide +kernel), List.mem_of_getElem? (i := 133) (by decide +kernel)⟩
theorem lw_p1 : lw_okq (⟨"StorageCostsModel", "filled", "()I"⟩, 9) := ⟨⟨by decide +kernel, by decide +kernel⟩, List.mem_of_getElem? (i := 282) (by decide +kernel), List.mem_of_getElem? (i := 328) (by decide +kernel), List.mem_of_getElem? (i := 329) (by decide +kernel)⟩
theorem lw_p2 : lw_okq (⟨"StorageCostsModel", "fail", "(I)I"⟩, 9) := ⟨⟨by decide +kernel, by decide +kernel⟩, List.mem_of_getElem? (i := 282) (by decide +kernel), List.mem_of_getElem? (i := 336) (by decide +kernel), List.mem_of_getElem? (i := 337) (by decide +kernel)⟩
theorem lw_p3 : lw_okq (⟨"StorageCostsModel", "out", "(II)Z"⟩, 9) := ⟨⟨by decide +kernel, by decide +kernel⟩, List.mem_of_getElem? (i := 282) (by decide +kernel), List.mem_of_getElem? (i := 348) (by decide +kernel), List.mem_of_getElem? (i := 349) (by decide +kernel)⟩
def lw_privs_1 : List (MethodName × Nat) := [(⟨"java/lang/Throwable", "fillInStackTrace", "(I)Ljava/lang/Throwable;"⟩, 6), (⟨"StorageCostsModel", "filled", "()I"⟩, 9), (⟨"StorageCostsModel", "fail", "(I)I"⟩, 9), (⟨"StorageCostsModel", "out", "(II)Z"⟩, 9)]
theorem lw_r1 : ∀ q ∈ lw_privs_1, lw_okq q := List.forall_mem_cons.mpr ⟨lw_p0, List.forall_mem_cons.mpr ⟨lw_p1, List.forall_mem_cons.mpr ⟨lw_p2, List.forall_mem_cons.mpr ⟨lw_p3, fun _ h => absurd h List.not_mem_nil⟩⟩⟩⟩
def lw_privs : List (MethodName × Nat) := lw_privs_1
def lw_tbl : List Cond := k2_sels lw_privs ++ tables_1
theorem lw_privs_ok : ∀ q ∈ lw_privs, lw_okq q := lw_r1

theorem sx_tb {i : Nat} {w : Jvm.Cond} (h : lw_tbl[i]? = some w) : w ∈ lw_tbl := List.mem_of_getElem? h
-- names: the classes of the worlds, their fields
abbrev sx_SC : String := "StorageCosts"
abbrev sx_ST : String := "StorageCosts$Storage"
abbrev sx_MD : String := "StorageCostsModel"
abbrev sx_LW : String := "StorageCostsLaw"
def F_SC : u_T := fun k => match k with
  | 0 => ("StorageCosts", "storage", "LStorageCosts$Storage;", true)
  | 1 => ("StorageCosts", "changes", "[I", true)
  | 2 => ("StorageCosts", "touches", "[I", true)
  | 3 => ("StorageCosts", "refunds", "[I", true)
  | _ => ("StorageCosts", "depth", "I", false)
def t_SC : Nat → FieldType := fun k => match k with
  | 0 => .object "StorageCosts$Storage"
  | 1 => .array .int
  | 2 => .array .int
  | 3 => .array .int
  | _ => .int
def F_ST : u_T := fun k => match k with
  | 0 => ("StorageCosts$Storage", "values", "[J", true)
  | 1 => ("StorageCosts$Storage", "firsts", "[J", true)
  | 2 => ("StorageCosts$Storage", "isTouched", "[Z", true)
  | 3 => ("StorageCosts$Storage", "touched", "[I", true)
  | 4 => ("StorageCosts$Storage", "touchedCount", "I", false)
  | 5 => ("StorageCosts$Storage", "changes", "[I", false)
  | 6 => ("StorageCosts$Storage", "befores", "[J", false)
  | 7 => ("StorageCosts$Storage", "changed", "I", false)
  | _ => ("StorageCosts$Storage", "refund", "I", false)
def t_ST : Nat → FieldType := fun k => match k with
  | 0 => .array .long
  | 1 => .array .long
  | 2 => .array .boolean
  | 3 => .array .int
  | 4 => .int
  | 5 => .array .int
  | 6 => .array .long
  | 7 => .int
  | _ => .int
def F_MD : u_T := fun k => match k with
  | 0 => ("StorageCostsModel", "failed", "I", false)
  | 1 => ("StorageCostsModel", "kept", "[[J", true)
  | 2 => ("StorageCostsModel", "keptTouched", "[[Z", true)
  | 3 => ("StorageCostsModel", "keptRefund", "[I", true)
  | 4 => ("StorageCostsModel", "now", "[J", true)
  | 5 => ("StorageCostsModel", "firsts", "[J", true)
  | 6 => ("StorageCostsModel", "touched", "[Z", true)
  | 7 => ("StorageCostsModel", "refund", "I", false)
  | _ => ("StorageCostsModel", "depth", "I", false)
def t_MD : Nat → FieldType := fun k => match k with
  | 0 => .int
  | 1 => .array (.array .long)
  | 2 => .array (.array .boolean)
  | 3 => .array .int
  | 4 => .array .long
  | 5 => .array .long
  | 6 => .array .boolean
  | 7 => .int
  | _ => .int
abbrev sx_cls : List vw_C := [(sx_SC, F_SC, 5), (sx_ST, F_ST, 9), (sx_MD, F_MD, 9)]
def sx_ty (ci : Nat) : Nat → FieldType := match ci with
  | 0 => t_SC
  | 1 => t_ST
  | _ => t_MD

theorem sx_n_SC : ∀ a, a < 5 → ∀ b, b < 5 → a ≠ b → (F_SC a).2.1 ≠ (F_SC b).2.1 := by decide +kernel
theorem sx_t_SC : ∀ k, k < 5 → parseFieldDescriptor (F_SC k).2.2.1 = some (t_SC k) := by decide +kernel
theorem sx_w_SC : ∀ w ∈ u_ws sx_SC F_SC 5, w ∈ lw_tbl := by
  intro w hw
  obtain ⟨k, hk, rfl⟩ := List.mem_map.mp hw
  have hk := List.mem_range.mp hk
  match k, hk with
  | 0, _ => exact sx_tb (i := 64) rfl
  | 1, _ => exact sx_tb (i := 66) rfl
  | 2, _ => exact sx_tb (i := 68) rfl
  | 3, _ => exact sx_tb (i := 70) rfl
  | 4, _ => exact sx_tb (i := 72) rfl
theorem f_SC_10 : Jvm.Cond.fieldLink sx_SC 10 sx_SC (F_SC 0).2.1 (F_SC 0).2.2.1 ∈ lw_tbl := sx_tb (i := 59) rfl
theorem f_SC_16 : Jvm.Cond.fieldLink sx_SC 16 sx_SC (F_SC 1).2.1 (F_SC 1).2.2.1 ∈ lw_tbl := sx_tb (i := 60) rfl
theorem f_SC_20 : Jvm.Cond.fieldLink sx_SC 20 sx_SC (F_SC 2).2.1 (F_SC 2).2.2.1 ∈ lw_tbl := sx_tb (i := 61) rfl
theorem f_SC_23 : Jvm.Cond.fieldLink sx_SC 23 sx_SC (F_SC 3).2.1 (F_SC 3).2.2.1 ∈ lw_tbl := sx_tb (i := 62) rfl
theorem f_SC_32 : Jvm.Cond.fieldLink sx_SC 32 sx_SC (F_SC 4).2.1 (F_SC 4).2.2.1 ∈ lw_tbl := sx_tb (i := 63) rfl
theorem sx_n_ST : ∀ a, a < 9 → ∀ b, b < 9 → a ≠ b → (F_ST a).2.1 ≠ (F_ST b).2.1 := by decide +kernel
theorem sx_t_ST : ∀ k, k < 9 → parseFieldDescriptor (F_ST k).2.2.1 = some (t_ST k) := by decide +kernel
theorem sx_w_ST : ∀ w ∈ u_ws sx_ST F_ST 9, w ∈ lw_tbl := by
  intro w hw
  obtain ⟨k, hk, rfl⟩ := List.mem_map.mp hw
  have hk := List.mem_range.mp hk
  match k, hk with
  | 0, _ => exact sx_tb (i := 37) rfl
  | 1, _ => exact sx_tb (i := 39) rfl
  | 2, _ => exact sx_tb (i := 41) rfl
  | 3, _ => exact sx_tb (i := 43) rfl
  | 4, _ => exact sx_tb (i := 45) rfl
  | 5, _ => exact sx_tb (i := 47) rfl
  | 6, _ => exact sx_tb (i := 49) rfl
  | 7, _ => exact sx_tb (i := 51) rfl
  | 8, _ => exact sx_tb (i := 53) rfl
theorem f_ST_9 : Jvm.Cond.fieldLink sx_ST 9 sx_ST (F_ST 0).2.1 (F_ST 0).2.2.1 ∈ lw_tbl := sx_tb (i := 28) rfl
theorem f_ST_15 : Jvm.Cond.fieldLink sx_ST 15 sx_ST (F_ST 1).2.1 (F_ST 1).2.2.1 ∈ lw_tbl := sx_tb (i := 29) rfl
theorem f_ST_18 : Jvm.Cond.fieldLink sx_ST 18 sx_ST (F_ST 2).2.1 (F_ST 2).2.2.1 ∈ lw_tbl := sx_tb (i := 30) rfl
theorem f_ST_22 : Jvm.Cond.fieldLink sx_ST 22 sx_ST (F_ST 3).2.1 (F_ST 3).2.2.1 ∈ lw_tbl := sx_tb (i := 31) rfl
theorem f_ST_32 : Jvm.Cond.fieldLink sx_ST 32 sx_ST (F_ST 4).2.1 (F_ST 4).2.2.1 ∈ lw_tbl := sx_tb (i := 32) rfl
theorem f_ST_26 : Jvm.Cond.fieldLink sx_ST 26 sx_ST (F_ST 5).2.1 (F_ST 5).2.2.1 ∈ lw_tbl := sx_tb (i := 33) rfl
theorem f_ST_29 : Jvm.Cond.fieldLink sx_ST 29 sx_ST (F_ST 6).2.1 (F_ST 6).2.2.1 ∈ lw_tbl := sx_tb (i := 34) rfl
theorem f_ST_39 : Jvm.Cond.fieldLink sx_ST 39 sx_ST (F_ST 7).2.1 (F_ST 7).2.2.1 ∈ lw_tbl := sx_tb (i := 35) rfl
theorem f_ST_36 : Jvm.Cond.fieldLink sx_ST 36 sx_ST (F_ST 8).2.1 (F_ST 8).2.2.1 ∈ lw_tbl := sx_tb (i := 36) rfl
theorem sx_n_MD : ∀ a, a < 9 → ∀ b, b < 9 → a ≠ b → (F_MD a).2.1 ≠ (F_MD b).2.1 := by decide +kernel
theorem sx_t_MD : ∀ k, k < 9 → parseFieldDescriptor (F_MD k).2.2.1 = some (t_MD k) := by decide +kernel
theorem sx_w_MD : ∀ w ∈ u_ws sx_MD F_MD 9, w ∈ lw_tbl := by
  intro w hw
  obtain ⟨k, hk, rfl⟩ := List.mem_map.mp hw
  have hk := List.mem_range.mp hk
  match k, hk with
  | 0, _ => exact sx_tb (i := 304) rfl
  | 1, _ => exact sx_tb (i := 306) rfl
  | 2, _ => exact sx_tb (i := 308) rfl
  | 3, _ => exact sx_tb (i := 310) rfl
  | 4, _ => exact sx_tb (i := 312) rfl
  | 5, _ => exact sx_tb (i := 314) rfl
  | 6, _ => exact sx_tb (i := 316) rfl
  | 7, _ => exact sx_tb (i := 318) rfl
  | 8, _ => exact sx_tb (i := 320) rfl
theorem f_MD_34 : Jvm.Cond.fieldLink sx_MD 34 sx_MD (F_MD 0).2.1 (F_MD 0).2.2.1 ∈ lw_tbl := sx_tb (i := 295) rfl
theorem f_MD_9 : Jvm.Cond.fieldLink sx_MD 9 sx_MD (F_MD 1).2.1 (F_MD 1).2.2.1 ∈ lw_tbl := sx_tb (i := 296) rfl
theorem f_MD_16 : Jvm.Cond.fieldLink sx_MD 16 sx_MD (F_MD 2).2.1 (F_MD 2).2.2.1 ∈ lw_tbl := sx_tb (i := 297) rfl
theorem f_MD_19 : Jvm.Cond.fieldLink sx_MD 19 sx_MD (F_MD 3).2.1 (F_MD 3).2.2.1 ∈ lw_tbl := sx_tb (i := 298) rfl
theorem f_MD_23 : Jvm.Cond.fieldLink sx_MD 23 sx_MD (F_MD 4).2.1 (F_MD 4).2.2.1 ∈ lw_tbl := sx_tb (i := 299) rfl
theorem f_MD_27 : Jvm.Cond.fieldLink sx_MD 27 sx_MD (F_MD 5).2.1 (F_MD 5).2.2.1 ∈ lw_tbl := sx_tb (i := 300) rfl
theorem f_MD_30 : Jvm.Cond.fieldLink sx_MD 30 sx_MD (F_MD 6).2.1 (F_MD 6).2.2.1 ∈ lw_tbl := sx_tb (i := 301) rfl
theorem f_MD_38 : Jvm.Cond.fieldLink sx_MD 38 sx_MD (F_MD 7).2.1 (F_MD 7).2.2.1 ∈ lw_tbl := sx_tb (i := 302) rfl
theorem f_MD_41 : Jvm.Cond.fieldLink sx_MD 41 sx_MD (F_MD 8).2.1 (F_MD 8).2.2.1 ∈ lw_tbl := sx_tb (i := 303) rfl
theorem sx_in {ci : Nat} {q : vw_C} (h : sx_cls[ci]? = some q) : (∀ w ∈ u_ws q.1 q.2.1 q.2.2, w ∈ lw_tbl) ∧ (∀ k, k < q.2.2 → parseFieldDescriptor (q.2.1 k).2.2.1 = some (sx_ty ci k)) ∧ (∀ a, a < q.2.2 → ∀ b, b < q.2.2 → a ≠ b → (q.2.1 a).2.1 ≠ (q.2.1 b).2.1) := by
  match ci, h with
  | 0, h => cases h; exact ⟨sx_w_SC, sx_t_SC, sx_n_SC⟩
  | 1, h => cases h; exact ⟨sx_w_ST, sx_t_ST, sx_n_ST⟩
  | 2, h => cases h; exact ⟨sx_w_MD, sx_t_MD, sx_n_MD⟩
  | n + 3, h => cases h
abbrev b_SC_longerI : ByteArray := prog_1_method_1_code
abbrev y_SC_longerI : MethodName := ⟨sx_SC, "longer", "([I)[I"⟩
abbrev w_SC_longerI : Jvm.Cond := .code y_SC_longerI b_SC_longerI 3 (some (.array .int))
theorem m_SC_longerI : w_SC_longerI ∈ lw_tbl := sx_tb (i := 248) rfl
abbrev b_SC_longerJ : ByteArray := prog_1_method_2_code
abbrev y_SC_longerJ : MethodName := ⟨sx_SC, "longer", "([J)[J"⟩
abbrev w_SC_longerJ : Jvm.Cond := .code y_SC_longerJ b_SC_longerJ 3 (some (.array .long))
theorem m_SC_longerJ : w_SC_longerJ ∈ lw_tbl := sx_tb (i := 251) rfl
abbrev b_SC_init : ByteArray := prog_1_method_3_code
abbrev y_SC_init : MethodName := ⟨sx_SC, "<init>", "()V"⟩
abbrev w_SC_init : Jvm.Cond := .code y_SC_init b_SC_init 1 none
theorem m_SC_init : w_SC_init ∈ lw_tbl := sx_tb (i := 18) rfl
abbrev b_SC_place : ByteArray := prog_1_method_4_code
abbrev y_SC_place : MethodName := ⟨sx_SC, "place", "(II)I"⟩
abbrev w_SC_place : Jvm.Cond := .code y_SC_place b_SC_place 2 (some .int)
theorem m_SC_place : w_SC_place ∈ lw_tbl := sx_tb (i := 208) rfl
abbrev b_SC_begin : ByteArray := prog_1_method_5_code
abbrev y_SC_begin : MethodName := ⟨sx_SC, "begin", "()I"⟩
abbrev w_SC_begin : Jvm.Cond := .code y_SC_begin b_SC_begin 1 (some .int)
theorem m_SC_begin : w_SC_begin ∈ lw_tbl := sx_tb (i := 78) rfl
abbrev b_SC_open : ByteArray := prog_1_method_6_code
abbrev y_SC_open : MethodName := ⟨sx_SC, "open", "()I"⟩
abbrev w_SC_open : Jvm.Cond := .code y_SC_open b_SC_open 1 (some .int)
theorem m_SC_open : w_SC_open ∈ lw_tbl := sx_tb (i := 98) rfl
abbrev b_SC_close : ByteArray := prog_1_method_7_code
abbrev y_SC_close : MethodName := ⟨sx_SC, "close", "(Z)I"⟩
abbrev w_SC_close : Jvm.Cond := .code y_SC_close b_SC_close 2 (some .int)
theorem m_SC_close : w_SC_close ∈ lw_tbl := sx_tb (i := 181) rfl
abbrev b_SC_load : ByteArray := prog_1_method_8_code
abbrev y_SC_load : MethodName := ⟨sx_SC, "load", "(II)I"⟩
abbrev w_SC_load : Jvm.Cond := .code y_SC_load b_SC_load 3 (some .int)
theorem m_SC_load : w_SC_load ∈ lw_tbl := sx_tb (i := 205) rfl
abbrev b_SC_store : ByteArray := prog_1_method_9_code
abbrev y_SC_store : MethodName := ⟨sx_SC, "store", "(IIJI)I"⟩
abbrev w_SC_store : Jvm.Cond := .code y_SC_store b_SC_store 8 (some .int)
theorem m_SC_store : w_SC_store ∈ lw_tbl := sx_tb (i := 234) rfl
abbrev b_SC_held : ByteArray := prog_1_method_10_code
abbrev y_SC_held : MethodName := ⟨sx_SC, "held", "(IIZ)J"⟩
abbrev w_SC_held : Jvm.Cond := .code y_SC_held b_SC_held 5 (some .long)
theorem m_SC_held : w_SC_held ∈ lw_tbl := sx_tb (i := 258) rfl
abbrev b_SC_touched : ByteArray := prog_1_method_11_code
abbrev y_SC_touched : MethodName := ⟨sx_SC, "touched", "(II)Z"⟩
abbrev w_SC_touched : Jvm.Cond := .code y_SC_touched b_SC_touched 3 (some .boolean)
theorem m_SC_touched : w_SC_touched ∈ lw_tbl := sx_tb (i := 273) rfl
abbrev b_SC_count : ByteArray := prog_1_method_12_code
abbrev y_SC_count : MethodName := ⟨sx_SC, "count", "(I)I"⟩
abbrev w_SC_count : Jvm.Cond := .code y_SC_count b_SC_count 2 (some .int)
theorem m_SC_count : w_SC_count ∈ lw_tbl := sx_tb (i := 284) rfl
abbrev b_MD_init : ByteArray := prog_4_method_1_code
abbrev y_MD_init : MethodName := ⟨sx_MD, "<init>", "()V"⟩
abbrev w_MD_init : Jvm.Cond := .code y_MD_init b_MD_init 1 none
theorem m_MD_init : w_MD_init ∈ lw_tbl := sx_tb (i := 289) rfl
abbrev b_MD_thrown : ByteArray := prog_4_method_2_code
abbrev y_MD_thrown : MethodName := ⟨sx_MD, "thrown", "()I"⟩
abbrev w_MD_thrown : Jvm.Cond := .code y_MD_thrown b_MD_thrown 1 (some .int)
theorem m_MD_thrown : w_MD_thrown ∈ lw_tbl := sx_tb (i := 326) rfl
abbrev b_MD_fail : ByteArray := prog_4_method_3_code
abbrev y_MD_fail : MethodName := ⟨sx_MD, "fail", "(I)I"⟩
abbrev w_MD_fail : Jvm.Cond := .code y_MD_fail b_MD_fail 2 (some .int)
theorem m_MD_fail : w_MD_fail ∈ lw_tbl := sx_tb (i := 342) rfl
abbrev b_MD_filled : ByteArray := prog_4_method_4_code
abbrev y_MD_filled : MethodName := ⟨sx_MD, "filled", "()I"⟩
abbrev w_MD_filled : Jvm.Cond := .code y_MD_filled b_MD_filled 3 (some .int)
theorem m_MD_filled : w_MD_filled ∈ lw_tbl := sx_tb (i := 334) rfl
abbrev b_MD_begin : ByteArray := prog_4_method_5_code
abbrev y_MD_begin : MethodName := ⟨sx_MD, "begin", "()I"⟩
abbrev w_MD_begin : Jvm.Cond := .code y_MD_begin b_MD_begin 2 (some .int)
theorem m_MD_begin : w_MD_begin ∈ lw_tbl := sx_tb (i := 330) rfl
abbrev b_MD_open : ByteArray := prog_4_method_6_code
abbrev y_MD_open : MethodName := ⟨sx_MD, "open", "()I"⟩
abbrev w_MD_open : Jvm.Cond := .code y_MD_open b_MD_open 2 (some .int)
theorem m_MD_open : w_MD_open ∈ lw_tbl := sx_tb (i := 338) rfl
abbrev b_MD_close : ByteArray := prog_4_method_7_code
abbrev y_MD_close : MethodName := ⟨sx_MD, "close", "(Z)I"⟩
abbrev w_MD_close : Jvm.Cond := .code y_MD_close b_MD_close 3 (some .int)
theorem m_MD_close : w_MD_close ∈ lw_tbl := sx_tb (i := 346) rfl
abbrev b_MD_out : ByteArray := prog_4_method_8_code
abbrev y_MD_out : MethodName := ⟨sx_MD, "out", "(II)Z"⟩
abbrev w_MD_out : Jvm.Cond := .code y_MD_out b_MD_out 3 (some .boolean)
theorem m_MD_out : w_MD_out ∈ lw_tbl := sx_tb (i := 354) rfl
abbrev b_MD_load : ByteArray := prog_4_method_9_code
abbrev y_MD_load : MethodName := ⟨sx_MD, "load", "(II)I"⟩
abbrev w_MD_load : Jvm.Cond := .code y_MD_load b_MD_load 4 (some .int)
theorem m_MD_load : w_MD_load ∈ lw_tbl := sx_tb (i := 350) rfl
abbrev b_MD_store : ByteArray := prog_4_method_10_code
abbrev y_MD_store : MethodName := ⟨sx_MD, "store", "(IIJI)I"⟩
abbrev w_MD_store : Jvm.Cond := .code y_MD_store b_MD_store 13 (some .int)
theorem m_MD_store : w_MD_store ∈ lw_tbl := sx_tb (i := 358) rfl
abbrev b_MD_held : ByteArray := prog_4_method_11_code
abbrev y_MD_held : MethodName := ⟨sx_MD, "held", "(IIZ)J"⟩
abbrev w_MD_held : Jvm.Cond := .code y_MD_held b_MD_held 4 (some .long)
theorem m_MD_held : w_MD_held ∈ lw_tbl := sx_tb (i := 362) rfl
abbrev b_MD_touched : ByteArray := prog_4_method_12_code
abbrev y_MD_touched : MethodName := ⟨sx_MD, "touched", "(II)Z"⟩
abbrev w_MD_touched : Jvm.Cond := .code y_MD_touched b_MD_touched 3 (some .boolean)
theorem m_MD_touched : w_MD_touched ∈ lw_tbl := sx_tb (i := 366) rfl
abbrev b_MD_count : ByteArray := prog_4_method_13_code
abbrev y_MD_count : MethodName := ⟨sx_MD, "count", "(I)I"⟩
abbrev w_MD_count : Jvm.Cond := .code y_MD_count b_MD_count 4 (some .int)
theorem m_MD_count : w_MD_count ∈ lw_tbl := sx_tb (i := 370) rfl
abbrev b_ST_init : ByteArray := prog_2_method_1_code
abbrev y_ST_init : MethodName := ⟨sx_ST, "<init>", "()V"⟩
abbrev w_ST_init : Jvm.Cond := .code y_ST_init b_ST_init 1 none
theorem m_ST_init : w_ST_init ∈ lw_tbl := sx_tb (i := 26) rfl
abbrev b_ST_value : ByteArray := prog_2_method_2_code
abbrev y_ST_value : MethodName := ⟨sx_ST, "value", "(I)J"⟩
abbrev w_ST_value : Jvm.Cond := .code y_ST_value b_ST_value 2 (some .long)
theorem m_ST_value : w_ST_value ∈ lw_tbl := sx_tb (i := 266) rfl
abbrev b_ST_first : ByteArray := prog_2_method_3_code
abbrev y_ST_first : MethodName := ⟨sx_ST, "first", "(I)J"⟩
abbrev w_ST_first : Jvm.Cond := .code y_ST_first b_ST_first 2 (some .long)
theorem m_ST_first : w_ST_first ∈ lw_tbl := sx_tb (i := 262) rfl
abbrev b_ST_isTouched : ByteArray := prog_2_method_4_code
abbrev y_ST_isTouched : MethodName := ⟨sx_ST, "isTouched", "(I)Z"⟩
abbrev w_ST_isTouched : Jvm.Cond := .code y_ST_isTouched b_ST_isTouched 2 (some .boolean)
theorem m_ST_isTouched : w_ST_isTouched ∈ lw_tbl := sx_tb (i := 277) rfl
abbrev b_ST_touchedCount : ByteArray := prog_2_method_5_code
abbrev y_ST_touchedCount : MethodName := ⟨sx_ST, "touchedCount", "()I"⟩
abbrev w_ST_touchedCount : Jvm.Cond := .code y_ST_touchedCount b_ST_touchedCount 1 (some .int)
theorem m_ST_touchedCount : w_ST_touchedCount ∈ lw_tbl := sx_tb (i := 169) rfl
abbrev b_ST_refund : ByteArray := prog_2_method_6_code
abbrev y_ST_refund : MethodName := ⟨sx_ST, "refund", "()I"⟩
abbrev w_ST_refund : Jvm.Cond := .code y_ST_refund b_ST_refund 1 (some .int)
theorem m_ST_refund : w_ST_refund ∈ lw_tbl := sx_tb (i := 173) rfl
abbrev b_ST_changed : ByteArray := prog_2_method_7_code
abbrev y_ST_changed : MethodName := ⟨sx_ST, "changed", "()I"⟩
abbrev w_ST_changed : Jvm.Cond := .code y_ST_changed b_ST_changed 1 (some .int)
theorem m_ST_changed : w_ST_changed ∈ lw_tbl := sx_tb (i := 165) rfl
abbrev b_ST_begin : ByteArray := prog_2_method_8_code
abbrev y_ST_begin : MethodName := ⟨sx_ST, "begin", "()V"⟩
abbrev w_ST_begin : Jvm.Cond := .code y_ST_begin b_ST_begin 2 none
theorem m_ST_begin : w_ST_begin ∈ lw_tbl := sx_tb (i := 82) rfl
abbrev b_ST_touch : ByteArray := prog_2_method_9_code
abbrev y_ST_touch : MethodName := ⟨sx_ST, "touch", "(I)Z"⟩
abbrev w_ST_touch : Jvm.Cond := .code y_ST_touch b_ST_touch 2 (some .boolean)
theorem m_ST_touch : w_ST_touch ∈ lw_tbl := sx_tb (i := 227) rfl
abbrev b_ST_back : ByteArray := prog_2_method_10_code
abbrev y_ST_back : MethodName := ⟨sx_ST, "back", "(III)V"⟩
abbrev w_ST_back : Jvm.Cond := .code y_ST_back b_ST_back 4 none
theorem m_ST_back : w_ST_back ∈ lw_tbl := sx_tb (i := 86) rfl
abbrev b_ST_cost : ByteArray := prog_2_method_11_code
abbrev y_ST_cost : MethodName := ⟨sx_ST, "cost", "(IJ)I"⟩
abbrev w_ST_cost : Jvm.Cond := .code y_ST_cost b_ST_cost 5 (some .int)
theorem m_ST_cost : w_ST_cost ∈ lw_tbl := sx_tb (i := 238) rfl
abbrev b_ST_store : ByteArray := prog_2_method_12_code
abbrev y_ST_store : MethodName := ⟨sx_ST, "store", "(IJ)V"⟩
abbrev w_ST_store : Jvm.Cond := .code y_ST_store b_ST_store 4 none
theorem m_ST_store : w_ST_store ∈ lw_tbl := sx_tb (i := 242) rfl
abbrev b_ST_given : ByteArray := prog_2_method_13_code
abbrev y_ST_given : MethodName := ⟨sx_ST, "given", "(JJJ)I"⟩
abbrev w_ST_given : Jvm.Cond := .code y_ST_given b_ST_given 7 (some .int)
theorem m_ST_given : w_ST_given ∈ lw_tbl := sx_tb (i := 245) rfl
abbrev b_ST_some : ByteArray := prog_2_method_14_code
abbrev y_ST_some : MethodName := ⟨sx_ST, "some", "()I"⟩
abbrev w_ST_some : Jvm.Cond := .code y_ST_some b_ST_some 3 (some .int)
theorem m_ST_some : w_ST_some ∈ lw_tbl := sx_tb (i := 90) rfl
abbrev b_LW_open : ByteArray := method_3_code
abbrev y_LW_open : MethodName := ⟨sx_LW, "open", "(LStorageCosts;[J)I"⟩
abbrev w_LW_open : Jvm.Cond := .codeWith y_LW_open b_LW_open 3 (some .int) [(0, 8, 11, 13)]
theorem m_LW_open : w_LW_open ∈ lw_tbl := sx_tb (i := 93) rfl
abbrev b_LW_close : ByteArray := method_4_code
abbrev y_LW_close : MethodName := ⟨sx_LW, "close", "(LStorageCosts;Z[J)I"⟩
abbrev w_LW_close : Jvm.Cond := .codeWith y_LW_close b_LW_close 4 (some .int) [(0, 9, 12, 19)]
theorem m_LW_close : w_LW_close ∈ lw_tbl := sx_tb (i := 176) rfl
abbrev b_LW_load : ByteArray := method_5_code
abbrev y_LW_load : MethodName := ⟨sx_LW, "load", "(LStorageCosts;II[J)I"⟩
abbrev w_LW_load : Jvm.Cond := .codeWith y_LW_load b_LW_load 5 (some .int) [(0, 10, 13, 25)]
theorem m_LW_load : w_LW_load ∈ lw_tbl := sx_tb (i := 200) rfl
abbrev b_LW_store : ByteArray := method_6_code
abbrev y_LW_store : MethodName := ⟨sx_LW, "store", "(LStorageCosts;IIJI[J)I"⟩
abbrev w_LW_store : Jvm.Cond := .codeWith y_LW_store b_LW_store 8 (some .int) [(0, 14, 17, 25), (0, 14, 21, 19)]
theorem m_LW_store : w_LW_store ∈ lw_tbl := sx_tb (i := 230) rfl
abbrev b_LW_held : ByteArray := method_7_code
abbrev y_LW_held : MethodName := ⟨sx_LW, "held", "(LStorageCosts;IIZ[J)I"⟩
abbrev w_LW_held : Jvm.Cond := .codeWith y_LW_held b_LW_held 6 (some .int) [(0, 11, 14, 25)]
theorem m_LW_held : w_LW_held ∈ lw_tbl := sx_tb (i := 254) rfl
abbrev b_LW_touched : ByteArray := method_8_code
abbrev y_LW_touched : MethodName := ⟨sx_LW, "touched", "(LStorageCosts;II[J)I"⟩
abbrev w_LW_touched : Jvm.Cond := .codeWith y_LW_touched b_LW_touched 5 (some .int) [(0, 17, 20, 25)]
theorem m_LW_touched : w_LW_touched ∈ lw_tbl := sx_tb (i := 269) rfl
abbrev b_LW_count : ByteArray := method_9_code
abbrev y_LW_count : MethodName := ⟨sx_LW, "count", "(LStorageCosts;I[J)I"⟩
abbrev w_LW_count : Jvm.Cond := .codeWith y_LW_count b_LW_count 4 (some .int) [(0, 9, 12, 25)]
theorem m_LW_count : w_LW_count ∈ lw_tbl := sx_tb (i := 280) rfl
end
section
/-! THE FRAME OF THIS CLAIM: one context of tables (sx_CX), three kinds of contract (sx_Ctr: effect; sx_CtrP: pure; sx_CtrX: throws) -/
abbrev sx_G : Type := va_G × (Nat → ClassId)
abbrev sx_tys (G : sx_G) : List (ClassId × FieldType) := [(G.2 0, .int), (G.2 1, .long), (G.2 2, .boolean), (G.2 3, .array .long), (G.2 4, .array .boolean)]
def sx_good (w : Jvm.Cond) : Prop := (w.onTables && w.keeps) = true ∨ (∃ ty, w = .arrayClass ty) ∨ (∃ C T, w = .castable C T) ∨ (∃ x, w = .declares x) ∨ ∃ a i x h, w = .methodLinkNest a i x h
def sx_TB (U : State) : Prop := ∀ w ∈ lw_tbl, sx_good w → w.before #[] U = true
theorem sx_TB.warm {s U : State} (h : sx_TB s) (hW : s.WarmedH U.vm) : sx_TB U := fun w hw hg => by
  have h0 := h w hw hg
  rcases hg with hc | ⟨ty, rfl⟩ | ⟨C, T, rfl⟩ | ⟨x, rfl⟩ | ⟨a, i, x, h', rfl⟩
  · exact word_at hW (Or.inl hc) h0
  · exact word_at hW (Or.inr ⟨ty, rfl⟩) h0
  · exact va_Nw.warmC hW h0
  · exact va_Nw.warmD hW h0
  · exact va_Nw.warmM hW h0
theorem sx_TB.use {U : State} (h : sx_TB U) {w : Jvm.Cond} (hw : w ∈ lw_tbl) (hg : sx_good w) (A : Array Value) : w.before A U = true := by
  have h0 := h w hw hg
  rcases hg with hc | ⟨ty, rfl⟩ | ⟨C, T, rfl⟩ | ⟨x, rfl⟩ | ⟨a, i, x, h', rfl⟩
  · simp only [Bool.and_eq_true] at hc
    exact va_any hc.1 h0
  · exact h0
  · exact va_any rfl h0
  · exact va_any rfl h0
  · exact va_any rfl h0
/-- the array-of-array classes and what they are made of -/
def sx_AR (G : sx_G) (U : State) : Prop := (∃ k : Class, U.vm.classes[G.2 3]? = some k ∧ k.kind = .array (G.2 1) (.array .long)) ∧ (∃ k : Class, U.vm.classes[G.2 4]? = some k ∧ k.kind = .array (G.2 2) (.array .boolean)) ∧ (∃ (k : Class) (c0 : ClassId), U.vm.classes[G.2 1]? = some k ∧ k.kind = .array c0 .long) ∧ (∃ (k : Class) (c0 : ClassId), U.vm.classes[G.2 2]? = some k ∧ k.kind = .array c0 .boolean)
theorem sx_kind {u U : State} (hvm : u.vm.Alike U.vm) {c : ClassId} {kd : Kind} (h : ∃ k : Class, u.vm.classes[c]? = some k ∧ k.kind = kd) : ∃ k : Class, U.vm.classes[c]? = some k ∧ k.kind = kd := by
  obtain ⟨k, h1, h2⟩ := h
  obtain ⟨k', hk', he⟩ := hvm.2.2 _ _ h1
  exact ⟨k', hk', by rw [he]; exact h2⟩
theorem sx_AR.moved {G : sx_G} {u U : State} (hvm : u.vm.Alike U.vm) (h : sx_AR G u) : sx_AR G U := by
  obtain ⟨h1, h2, ⟨k3, c3, h3, h3'⟩, ⟨k4, c4, h4, h4'⟩⟩ := h
  obtain ⟨k5, h5, h5'⟩ := sx_kind hvm ⟨k3, h3, h3'⟩
  obtain ⟨k6, h6, h6'⟩ := sx_kind hvm ⟨k4, h4, h4'⟩
  exact ⟨sx_kind hvm h1, sx_kind hvm h2, ⟨k5, c3, h5, h5'⟩, ⟨k6, c4, h6, h6'⟩⟩
def sx_CX (G : sx_G) (U : State) : Prop := sx_TB U ∧ va_K G.1 sx_cls (sx_tys G) U ∧ sx_AR G U ∧ va_Nc "java/lang/IllegalStateException" "java/lang/IllegalArgumentException" U
theorem sx_CX.warm {G : sx_G} {s U : State} (h : sx_CX G s) (hW : s.WarmedH U.vm) : sx_CX G U := ⟨h.1.warm hW, va_K.moved hW.alike h.2.1, h.2.2.1.moved hW.alike, h.2.2.2.moved hW.alike⟩
theorem sx_CX.same {G : sx_G} {u U : State} (h : sx_CX G u) (hvm : U.vm = u.vm) : sx_CX G U := h.warm (by rw [hvm]; exact State.WarmedH.refl u)
/-- what a throw wants of the two statics of Throwable -/
abbrev sx_s1 : Jvm.Cond := .laysStatic "java/lang/Throwable" "UNASSIGNED_STACK" "[Ljava/lang/StackTraceElement;"
abbrev sx_s2 : Jvm.Cond := .laysStatic "java/lang/Throwable" "SUPPRESSED_SENTINEL" "Ljava/util/List;"
abbrev sx_s3 : Jvm.Cond := .isRef (.static "java/lang/Throwable" "UNASSIGNED_STACK" "[Ljava/lang/StackTraceElement;")
abbrev sx_s4 : Jvm.Cond := .isRef (.static "java/lang/Throwable" "SUPPRESSED_SENTINEL" "Ljava/util/List;")
def sx_TS (U : State) : Prop := sx_s1.before #[] U = true ∧ sx_s2.before #[] U = true ∧ sx_s3.before #[] U = true ∧ sx_s4.before #[] U = true
theorem sx_ls_ext {u U : State} {o n d : String} (hvm : U.vm = u.vm) (hh : ∀ q, q < u.heap.size → U.heap[q]? = u.heap[q]?) (h : (Jvm.Cond.laysStatic o n d).before #[] u = true) : (Jvm.Cond.laysStatic o n d).before #[] U = true := by
  have hf : U.fieldFound? o n d = u.fieldFound? o n d := by simp only [State.fieldFound?, hvm]
  simp only [Jvm.Cond.before, Jvm.Cond.holds, Jvm.Cond.value] at h ⊢
  rw [hf, hvm]
  cases h1 : u.vm.findClass o with
  | none => simp [h1] at h
  | some c =>
    cases h2 : u.fieldFound? o n d with
    | none => simp [h1, h2] at h
    | some x =>
      obtain ⟨c', k, i, f⟩ := x
      cases h3 : k.statics with
      | none => simp [h1, h2, h3] at h
      | some a =>
        have hlt : a < u.heap.size := by
          rcases Nat.lt_or_ge a u.heap.size with z | z
          · exact z
          · have : u.heap[a]? = none := by simpa using z
            simp [h1, h2, h3, this] at h
        simp only [h1, h2, h3, Option.bind_some, hh a hlt] at h ⊢
        exact h
theorem sx_rs_ext {u U : State} {o n d : String} (hvm : U.vm = u.vm) (hh : ∀ q, q < u.heap.size → U.heap[q]? = u.heap[q]?) (h : (Jvm.Cond.isRef (.static o n d)).before #[] u = true) : (Jvm.Cond.isRef (.static o n d)).before #[] U = true := by
  have hf : U.fieldFound? o n d = u.fieldFound? o n d := by simp only [State.fieldFound?, hvm]
  have key : ∀ v, (Jvm.Term.static o n d).eval #[] u none [] u = some v → (Jvm.Term.static o n d).eval #[] U none [] U = some v := by
    intro v hv
    simp only [Jvm.Term.eval, State.fieldNamed?, hf] at hv ⊢
    cases h2 : u.fieldFound? o n d with
    | none => simp [h2] at hv
    | some x =>
      obtain ⟨c', k, i, f⟩ := x
      cases h4 : f.isStatic with
      | false => simp [h2, h4] at hv
      | true =>
      cases h3 : k.statics with
      | none => simp [h2, h3, h4] at hv
      | some a =>
        have hlt : a < u.heap.size := by
          rcases Nat.lt_or_ge a u.heap.size with z | z
          · exact z
          · have : u.heap[a]? = none := by simpa using z
            simp [h2, h3, h4, this] at hv
        simpa [h2, h3, h4, hh a hlt] using hv
  simp only [Jvm.Cond.before, Jvm.Cond.holds, Jvm.Cond.value] at h ⊢
  cases hv : (Jvm.Term.static o n d).eval #[] u none [] u with
  | none => simp [hv] at h
  | some v => rw [key v hv]; rw [hv] at h; exact h
theorem sx_TS.ext {s U : State} (h : sx_TS s) (hW : s.WarmedH U.vm) (hh : ∀ q, q < s.heap.size → U.heap[q]? = s.heap[q]?) : sx_TS U := by
  have hs : ∀ c : Jvm.Cond, c.steady = true → c.before #[] s = true → c.before #[] (s.setVm U.vm) = true := fun c hc h0 => by
    have := Jvm.Cond.value_setVm (args := #[]) (o := none) hW.alike c [] hc
    simp only [Jvm.Cond.before, Jvm.Cond.holds] at h0 ⊢
    rw [this]; exact h0
  obtain ⟨h1, h2, h3, h4⟩ := h
  exact ⟨sx_ls_ext (u := s.setVm U.vm) rfl hh (hs _ rfl h1), sx_ls_ext (u := s.setVm U.vm) rfl hh (hs _ rfl h2), sx_rs_ext (u := s.setVm U.vm) rfl hh (hs _ rfl h3), sx_rs_ext (u := s.setVm U.vm) rfl hh (hs _ rfl h4)⟩
theorem sx_TS.same {u U : State} (h : sx_TS u) (hvm : U.vm = u.vm) (hh : U.heap = u.heap) : sx_TS U := h.ext (by rw [hvm]; exact State.WarmedH.refl u) (fun q _ => by rw [hh])
/-! contracts -/
def sx_Q (Post : Option Value → (Nat → Prop) → Heap → Prop) (A : Nat → Prop) : Array Value → State → Outcome → State → Prop := fun _ st o t => (∃ v, o = .returned v ∧ Post v A t.heap) ∧ va_F A st t
def sx_pre (G : sx_G) (ws : va_W) (sz : Nat) : State → Prop := fun U => sx_CX G U ∧ U.heap.size = sz ∧ va_P G.1 sx_cls ws U.heap ∧ va_D (fun _ => True) ws
def sx_Ctr (l : Launch) (y : MethodName) (w : Jvm.Cond) (rm : Room) (G : sx_G) (as : List Value) (ws : va_W) (Post : Option Value → (Nat → Prop) → Heap → Prop) : Prop :=
  ∀ sz : Nat, Met l y [w] rm (va_Pc as (sx_pre G ws sz)) (sx_Q Post (va_A ws sz)) rm.cells rm.slots (va_A ws sz)
/-- the plain end: that answer, that world -/
def sx_is (G : sx_G) (v : Option Value) (w1 : va_W) : Option Value → (Nat → Prop) → Heap → Prop := fun v' A H => v' = v ∧ va_P G.1 sx_cls w1 H ∧ va_D A w1
def sx_QP (v : Value) : Array Value → State → Outcome → State → Prop := fun _ st o t => o = .returned (some v) ∧ t.heap = st.heap
def sx_rm (f k n lo : Nat) : Room := { frames := f, cells := k, slots := n, locals := lo }
def sx_CtrP (l : Launch) (y : MethodName) (w : Jvm.Cond) (f lo : Nat) (G : sx_G) (as : List Value) (ws : va_W) (v : Value) : Prop :=
  Met l y [w] (sx_rm f 0 0 lo) (va_Pc as (fun U => sx_CX G U ∧ va_P G.1 sx_cls ws U.heap)) (sx_QP v) 0 0 (fun _ => False)
def sx_QX (E : String) (mc ms : Nat) : Array Value → State → Outcome → State → Prop := fun _ st o t => ∃ (x : Addr) (ce : Cell), o = .threw x ∧ st.heap.size ≤ x ∧ t.heap[x]? = some ce ∧ ce.vm.isStatics = false ∧ st.vm.findClass E = some ce.cls ∧ st.WarmedH t.vm ∧ st.sameButNew ({ t with vm := st.vm } : State) [] mc ms
def sx_CtrX (l : Launch) (y : MethodName) (w : Jvm.Cond) (rm : Room) (G : sx_G) (as : List Value) (ws : va_W) (E : String) : Prop :=
  MetFree l y (headSpec [w] rm) (va_Pc as (fun U => sx_CX G U ∧ sx_TS U ∧ va_P G.1 sx_cls ws U.heap)) (fun _ _ _ _ _ => True) (sx_QX E rm.cells rm.slots)
def sx_XQ (below : List Frame) (E : String) (a : Array Value) (s : State) (mc ms : Nat) : State → Prop := fun t => ∃ o, t.status = .running ∧ Ended t below o ∧ sx_QX E mc ms a s o t
/-- what a walk knows at its start -/
def sx_C (p : Program) (s : State) (m : MethodId) (c : Code) (cc : ByteArray) (nL : Nat) (own : String) (G : sx_G) : Prop := p.tables.exec = Jvm.exec ∧ c.code = cc ∧ c.maxLocals = nL ∧ s.vm.findClass own = some m.cls ∧ sx_CX G s
theorem sx_Ctr.of {l : Launch} {y : MethodName} {cc : ByteArray} {maxL : Nat} {ret : Option FieldType} {rm : Room} {G : sx_G} {as : List Value} {ws : va_W} {Post : Option Value → (Nat → Prop) → Heap → Prop} (hy : plainName y.cls = true) (hn : (lg_sl as).length ≤ maxL)
    (body : ∀ (p : Program) (e : Env) (s : State) (m : MethodId) (below : List Frame) (meth : Method) (c : Code) (ls : Array Slot) (A : Nat → Prop), sx_C p s m c cc maxL y.cls G → meth.sig.returnType = ret → meth.locks = false → meth.name = y.name → lv_has ls maxL (lv_args 0 as) → va_P G.1 sx_cls ws s.heap → va_D A ws → (∀ q, s.heap.size ≤ q → A q) → va_S A s.heap s.heap [] →
      W p l e rm s m as.toArray below meth c s.heap [] 0 0 (MQ below (sx_Q Post A) as.toArray s rm.cells rm.slots A) (F0 m 0 ls [])) : sx_Ctr l y (.code y cc maxL ret) rm G as ws Post := by
  intro sz
  refine Met.ofW (cc := cc) (maxL := maxL) (ret := ret) hy rfl ?_
  intro p e s m args below meth c s₁ B hml hv
  obtain ⟨rfl, hC, hsz, hP, hD0⟩ := hv
  subst hsz
  rw [lg_entry_eq]
  exact body p e s m below meth c _ _ ⟨B.exec, B.bytes, hml, findClass_of_methodNamed B.named, hC⟩ B.returns B.notSynchronized (name_of_methodNamed B.named B.method).1 (lv_entry as hn) hP hD0.self (fun q h => Or.inr h) va_S.rf
theorem sx_CtrP.of {l : Launch} {y : MethodName} {cc : ByteArray} {maxL : Nat} {ret : Option FieldType} {f lo : Nat} {G : sx_G} {as : List Value} {ws : va_W} {v : Value} (hy : plainName y.cls = true) (hn : (lg_sl as).length ≤ maxL)
    (body : ∀ (p : Program) (e : Env) (s : State) (m : MethodId) (below : List Frame) (meth : Method) (c : Code) (ls : Array Slot), sx_C p s m c cc maxL y.cls G → meth.sig.returnType = ret → meth.locks = false → lv_has ls maxL (lv_args 0 as) → va_P G.1 sx_cls ws s.heap →
      W p l e (sx_rm f 0 0 lo) s m as.toArray below meth c s.heap [] 0 0 (MQ below (sx_QP v) as.toArray s 0 0 (fun _ => False)) (F0 m 0 ls [])) : sx_CtrP l y (.code y cc maxL ret) f lo G as ws v := by
  refine Met.ofW (cc := cc) (maxL := maxL) (ret := ret) hy rfl ?_
  intro p e s m args below meth c s₁ B hml hv
  obtain ⟨rfl, hC, hP⟩ := hv
  rw [lg_entry_eq]
  exact body p e s m below meth c _ ⟨B.exec, B.bytes, hml, findClass_of_methodNamed B.named, hC⟩ B.returns B.notSynchronized (lv_entry as hn) hP
theorem sx_CtrX.of {l : Launch} {y : MethodName} {cc : ByteArray} {maxL : Nat} {ret : Option FieldType} {rm : Room} {G : sx_G} {as : List Value} {ws : va_W} {E : String} (hy : plainName y.cls = true) (hn : (lg_sl as).length ≤ maxL)
    (body : ∀ (p : Program) (e : Env) (s : State) (m : MethodId) (below : List Frame) (meth : Method) (c : Code) (ls : Array Slot), l.admits e → sx_C p s m c cc maxL y.cls G → c.exceptionTable.toList = [] → meth.locks = false → lv_has ls maxL (lv_args 0 as) → va_P G.1 sx_cls ws s.heap → sx_TS s →
      W p l e rm s m as.toArray below meth c s.heap [] 0 0 (sx_XQ below E as.toArray s rm.cells rm.slots) (F0 m 0 ls [])) : sx_CtrX l y (.code y cc maxL ret) rm G as ws E := by
  refine MetFree.of_bodyS (code := cc) (maxLocals := maxL) (ret := ret) hy ?_ ?_
  · intro args s m h hn
    obtain ⟨meth, c, h1, h2, h3, h4, h5, h6, -, -⟩ := Jvm.Cond.code_spec hn (atoms_spec (ws := [Jvm.Cond.code y cc maxL ret]) h _ List.mem_cons_self)
    exact ⟨meth, c, h1, h2, h3, h4, h5, h6⟩
  · intro p e s m args below meth c s₁ B hml hP _
    obtain ⟨rfl, hC, hTS, hP⟩ := hP
    have hh0 : s₁.heap = s.heap := by rw [B.state]; rfl
    have he := B.noHandlers (atoms_spec (ws := [Jvm.Cond.code y cc maxL ret]) B.pre _ List.mem_cons_self)
    have he2 : c.exceptionTable.toList = [] := List.eq_nil_of_length_eq_zero (by simpa [Array.isEmpty] using he)
    have K := body p e s m below meth c _ B.admits ⟨B.exec, B.bytes, hml, findClass_of_methodNamed B.named, hC⟩ he2 B.notSynchronized (lv_entry as hn) hP hTS
    rw [← lg_entry_eq] at K
    obtain ⟨t, a1, o, b1, b2, b3⟩ := K s₁ hh0 (Stand.of_body B)
    exact ⟨t, o, a1, b1, b2, b3⟩
end
section
/-! the rules of the walk, over sx_C -/
theorem sx_P_mem {D : va_G} {cl : List vw_C} {ws : va_W} {H : Heap} : va_P D cl ws H ↔ ∀ q ∈ ws, va_at D cl q H := by
  constructor
  · intro h q hq
    obtain ⟨k, hk⟩ := List.getElem?_of_mem hq
    exact h k q hk
  · intro h k q hk
    exact h q (List.mem_of_getElem? hk)
theorem sx_ix1 {wa wr : va_W} {i : Nat} {q : Nat × va_E} (h : wa[i]? = some q) : (wa ++ wr)[i]? = some q := by
  have hl := (List.getElem?_eq_some_iff.mp h).1
  rw [List.getElem?_append_left hl]; exact h
theorem sx_ix2 {wa wr : va_W} {i : Nat} {q : Nat × va_E} (h : wr[i]? = some q) : (wa ++ wr)[wa.length + i]? = some q := by
  rw [List.getElem?_append_right (Nat.le_add_right _ _), Nat.add_sub_cancel_left]; exact h
theorem sx_lt {w : va_W} {i : Nat} {q : Nat × va_E} (h : w[i]? = some q) : i < w.length := (List.getElem?_eq_some_iff.mp h).1
/-- THE FRAME RULE: a world in three parts, the middle one goes through a call -/
theorem sx_join {A0 : Nat → Prop} {D : va_G} {cl : List vw_C} {wa wc wb w1 : va_W} {H H1 : Heap} (hP : va_P D cl (wa ++ (wc ++ wb)) H) (hD : va_D A0 (wa ++ (wc ++ wb))) (hF : ∀ q, va_A wc H.size q → A0 q)
    (hk : ∀ q : Nat, q < H.size → ¬ va_A wc H.size q → H1[q]? = H[q]?) (hP1 : va_P D cl w1 H1) (hD1 : va_D (va_A wc H.size) w1) : va_P D cl (wa ++ (w1 ++ wb)) H1 ∧ va_D A0 (wa ++ (w1 ++ wb)) := by
  have apA : ∀ (i : Nat) (q : Nat × va_E), wa[i]? = some q → q.1 < H.size ∧ ¬ va_A wc H.size q.1 := by
    intro i q hq
    have h1 := sx_ix1 (wr := wc ++ wb) hq
    have hl := (hP _ q h1).lt
    refine ⟨hl, fun h => ?_⟩
    rcases h with ⟨k, e, h⟩ | h
    · have h2 := sx_ix2 (wa := wa) (sx_ix1 (wr := wb) h)
      have := hD.1 _ _ q (q.1, e) h1 h2 rfl
      have := sx_lt hq
      omega
    · omega
  have apB : ∀ (i : Nat) (q : Nat × va_E), wb[i]? = some q → q.1 < H.size ∧ ¬ va_A wc H.size q.1 := by
    intro i q hq
    have h1 := sx_ix2 (wa := wa) (sx_ix2 (wa := wc) hq)
    have hl := (hP _ q h1).lt
    refine ⟨hl, fun h => ?_⟩
    rcases h with ⟨k, e, h⟩ | h
    · have h2 := sx_ix2 (wa := wa) (sx_ix1 (wr := wb) h)
      have := hD.1 _ _ q (q.1, e) h1 h2 rfl
      have := sx_lt h
      omega
    · omega
  have hPa : va_P D cl wa H1 := fun i q hq => (hP _ q (sx_ix1 hq)).kept (hk q.1 (apA i q hq).1 (apA i q hq).2)
  have hPb : va_P D cl wb H1 := fun i q hq => (hP _ q (sx_ix2 (sx_ix2 hq))).kept (hk q.1 (apB i q hq).1 (apB i q hq).2)
  have hDa : va_D A0 wa := ⟨fun i j x y hi hj h => hD.1 i j x y (sx_ix1 hi) (sx_ix1 hj) h, fun k q hq => hD.2 _ q (sx_ix1 hq)⟩
  have hDb : va_D A0 wb := ⟨fun i j x y hi hj h => by
    have := hD.1 _ _ x y (sx_ix2 (wa := wa) (sx_ix2 (wa := wc) hi)) (sx_ix2 (wa := wa) (sx_ix2 (wa := wc) hj)) h
    omega, fun k q hq => hD.2 _ q (sx_ix2 (sx_ix2 hq))⟩
  have hDc : va_D A0 w1 := hD1.weaken (fun k q _ h => hF q.1 h)
  refine ⟨hPa.app (hP1.app hPb), hDa.app (hDc.app hDb (fun i j x y hi hj h => ?_)) (fun i j x y hi hj h => ?_)⟩
  · exact (apB j y hj).2 (by rw [← h]; exact hD1.2 i x hi)
  · rcases List.mem_append.mp (List.mem_of_getElem? hj) with h2 | h2
    · obtain ⟨k, hk2⟩ := List.getElem?_of_mem h2
      exact (apA i x hi).2 (by rw [h]; exact hD1.2 k y hk2)
    · obtain ⟨k, hk2⟩ := List.getElem?_of_mem h2
      have := hD.1 _ _ x y (sx_ix1 hi) (sx_ix2 (wa := wa) (sx_ix2 (wa := wc) hk2)) h
      have := sx_lt hi
      omega
theorem sx_mid {D : va_G} {cl : List vw_C} {wa wc wb : va_W} {H : Heap} (hP : va_P D cl (wa ++ (wc ++ wb)) H) : va_P D cl wc H := fun _ q hq => hP _ q (sx_ix2 (sx_ix1 hq))
theorem sx_midD {A : Nat → Prop} {wa wc wb : va_W} (hD : va_D A (wa ++ (wc ++ wb))) : va_D (fun _ => True) wc := ⟨fun i j x y hi hj h => by
  have := hD.1 _ _ x y (sx_ix2 (wa := wa) (sx_ix1 (wr := wb) hi)) (sx_ix2 (wa := wa) (sx_ix1 (wr := wb) hj)) h
  omega, fun _ _ _ => trivial⟩
theorem sx_midF {A : Nat → Prop} {wa wc wb : va_W} {H0 H : Heap} {locs : List Loc} (hD : va_D A (wa ++ (wc ++ wb))) (hS : va_S A H0 H locs) (hA : ∀ q, H0.size ≤ q → A q) : ∀ q, va_A wc H.size q → A q := by
  intro q h
  rcases h with ⟨k, e, h⟩ | h
  · exact hD.2 _ (q, e) (sx_ix2 (sx_ix1 h))
  · exact hA q (Nat.le_trans hS.1 h)
section SXR
variable {p : Program} {l : Launch} {e : Env} {R : Room} {s : State} {m : MethodId} {args : Array Value} {below : List Frame} {meth : Method} {c : Code} {H : Heap} {locs : List Loc} {cells slots : Nat} {Q : State → Prop} {cc : ByteArray} {nL : Nat} {own : String} {G : sx_G} {pc : Nat} {ls : Array Slot} {rest : List Value} {A : Nat → Prop} {Post : Option Value → (Nat → Prop) → Heap → Prop}
-- ends
theorem sx_iret (C0 : sx_C p s m c cc nL own G) {v : Int32} (hr : meth.sig.returnType = some .int) (hlk : meth.locks = false) (hS : va_S A s.heap H locs) (hq : Post (some (.int v)) A H) (hdg : decode cc pc = .ok (.ireturn, 1)) : W p l e R s m args below meth c H locs cells slots (MQ below (sx_Q Post A) args s cells slots A) (F0 m pc ls [.int v]) :=
  W.iret C0.1 C0.2.1 hr (fun t ht _ => ⟨⟨_, rfl, by rw [ht]; exact hq⟩, hS.F ht⟩) hS.2.2 hdg hlk
theorem sx_zret (C0 : sx_C p s m c cc nL own G) {v : Int32} (hr : meth.sig.returnType = some .boolean) (hn : narrow .boolean (.int v) = .int v) (hlk : meth.locks = false) (hS : va_S A s.heap H locs) (hq : Post (some (.int v)) A H) (hdg : decode cc pc = .ok (.ireturn, 1)) : W p l e R s m args below meth c H locs cells slots (MQ below (sx_Q Post A) args s cells slots A) (F0 m pc ls [.int v]) :=
  W.zret C0.1 C0.2.1 hr hn (fun t ht _ => ⟨⟨_, rfl, by rw [ht]; exact hq⟩, hS.F ht⟩) hS.2.2 hdg hlk
theorem sx_lret (C0 : sx_C p s m c cc nL own G) {v : Int64} (hr : meth.sig.returnType = some .long) (hlk : meth.locks = false) (hS : va_S A s.heap H locs) (hq : Post (some (.long v)) A H) (hdg : decode cc pc = .ok (.lreturn, 1)) : W p l e R s m args below meth c H locs cells slots (MQ below (sx_Q Post A) args s cells slots A) (F0 m pc ls [.long v]) :=
  W.lret C0.1 C0.2.1 hr (fun t ht _ => ⟨⟨_, rfl, by rw [ht]; exact hq⟩, hS.F ht⟩) hS.2.2 hdg hlk
theorem sx_vret (C0 : sx_C p s m c cc nL own G) (hr : meth.sig.returnType = none) (hlk : meth.locks = false) (hS : va_S A s.heap H locs) (hq : Post none A H) (hdg : decode cc pc = .ok (.return_, 1)) : W p l e R s m args below meth c H locs cells slots (MQ below (sx_Q Post A) args s cells slots A) (F0 m pc ls []) :=
  W.vret C0.1 C0.2.1 hr (fun t ht _ => ⟨⟨_, rfl, by rw [ht]; exact hq⟩, hS.F ht⟩) hS.2.2 hdg hlk
theorem sx_aret (C0 : sx_C p s m c cc nL own G) {a : Addr} {rt : FieldType} (hr : meth.sig.returnType = some (.array rt)) (hlk : meth.locks = false) (hS : va_S A s.heap H locs) (hq : Post (some (.ref a)) A H) (hdg : decode cc pc = .ok (.areturn, 1)) : W p l e R s m args below meth c H locs cells slots (MQ below (sx_Q Post A) args s cells slots A) (F0 m pc ls [.ref a]) :=
  W.aret C0.1 C0.2.1 hr (Or.inr ⟨rt, rfl⟩) (Or.inr ⟨a, rfl⟩) (fun t ht _ => ⟨⟨_, rfl, by rw [ht]; exact hq⟩, hS.F ht⟩) hS.2.2 hdg hlk
theorem sx_iretP (C0 : sx_C p s m c cc nL own G) {v : Int32} (hr : meth.sig.returnType = some .int) (hlk : meth.locks = false) (hdg : decode cc pc = .ok (.ireturn, 1)) : W p l e R s m args below meth c s.heap [] 0 0 (MQ below (sx_QP (.int v)) args s 0 0 (fun _ => False)) (F0 m pc ls [.int v]) :=
  W.iret C0.1 C0.2.1 hr (fun t ht _ => ⟨rfl, ht⟩) (fun _ h => by cases h) hdg hlk
theorem sx_zretP (C0 : sx_C p s m c cc nL own G) {v : Int32} (hr : meth.sig.returnType = some .boolean) (hn : narrow .boolean (.int v) = .int v) (hlk : meth.locks = false) (hdg : decode cc pc = .ok (.ireturn, 1)) : W p l e R s m args below meth c s.heap [] 0 0 (MQ below (sx_QP (.int v)) args s 0 0 (fun _ => False)) (F0 m pc ls [.int v]) :=
  W.zret C0.1 C0.2.1 hr hn (fun t ht _ => ⟨rfl, ht⟩) (fun _ h => by cases h) hdg hlk
theorem sx_lretP (C0 : sx_C p s m c cc nL own G) {v : Int64} (hr : meth.sig.returnType = some .long) (hlk : meth.locks = false) (hdg : decode cc pc = .ok (.lreturn, 1)) : W p l e R s m args below meth c s.heap [] 0 0 (MQ below (sx_QP (.long v)) args s 0 0 (fun _ => False)) (F0 m pc ls [.long v]) :=
  W.lret C0.1 C0.2.1 hr (fun t ht _ => ⟨rfl, ht⟩) (fun _ h => by cases h) hdg hlk
-- a number's other name on the stack
theorem sx_topi {x y : Int32} (h : x = y) (k : W p l e R s m args below meth c H locs cells slots Q (F0 m pc ls (.int y :: rest))) : W p l e R s m args below meth c H locs cells slots Q (F0 m pc ls (.int x :: rest)) := h ▸ k
theorem sx_topl {x y : Int64} (h : x = y) (k : W p l e R s m args below meth c H locs cells slots Q (F0 m pc ls (.long y :: rest))) : W p l e R s m args below meth c H locs cells slots Q (F0 m pc ls (.long x :: rest)) := h ▸ k
-- fields
theorem sx_get (C0 : sx_C p s m c cc nL own G) {ws : va_W} {a ci idx : Nat} {T : u_T} {N : Nat} {fs : List Value} {v : Value} (hP : va_P G.1 sx_cls ws H) (q0 : Nat) (he : ws[q0]? = some (a, .inr (ci, fs))) (hc : sx_cls[ci]? = some (own, T, N)) (k : Nat) (hk : k < N) (hf : Jvm.Cond.fieldLink own idx own (T k).2.1 (T k).2.2.1 ∈ lw_tbl) (ho : (T k).1 = own) (hv : fs[k]? = some v) (hdg : decode cc pc = .ok (.getfield idx, 3))
    (kk : W p l e R s m args below meth c H locs cells slots Q (F0 m (pc + 3) ls (v :: rest))) : W p l e R s m args below meth c H locs cells slots Q (F0 m pc ls (.ref a :: rest)) := by
  have hi := (sx_in hc).1
  have hTB := C0.2.2.2.2.1
  exact va_get (Ts := u_ws own T N) (D := G.1) (cl := sx_cls) C0.1 C0.2.1 (fun w hw => hTB.use (hi w hw) (Or.inl (by
    obtain ⟨j, -, rfl⟩ := List.mem_map.mp hw
    unfold u_lay; split <;> rfl)) args) (fun _ h => h) C0.2.2.2.1 C0.2.2.2.2.2.1 hP q0 he hc k hk (hTB.use hf (Or.inl rfl) args) (fun x hx => by rw [ho] at hx; exact hx) hv hdg kk
theorem sx_put (C0 : sx_C p s m c cc nL own G) {ws : va_W} {a ci idx : Nat} {T : u_T} {N : Nat} {fs : List Value} {v : Value} {ty : FieldType} (hP : va_P G.1 sx_cls ws H) (hD : va_D A ws) (hS : va_S A s.heap H locs) (q0 : Nat) (he : ws[q0]? = some (a, .inr (ci, fs))) (hc : sx_cls[ci]? = some (own, T, N)) (k : Nat) (hk : k < N) (hf : Jvm.Cond.fieldLink own idx own (T k).2.1 (T k).2.2.1 ∈ lw_tbl) (ho : (T k).1 = own) (hfin : (T k).2.2.2 = false) (hd : parseFieldDescriptor (T k).2.2.1 = some ty) (hn : narrow ty v = v) (hft : fits ty v = true) (hl : k < fs.length) (hdg : decode cc pc = .ok (.putfield idx, 3))
    (kk : ∀ (H1 : Heap) (locs1 : List Loc), va_P G.1 sx_cls (ws.set q0 (a, .inr (ci, fs.set k v))) H1 → va_D A (ws.set q0 (a, .inr (ci, fs.set k v))) → va_S A s.heap H1 locs1 → W p l e R s m args below meth c H1 locs1 cells slots Q (F0 m (pc + 3) ls rest)) : W p l e R s m args below meth c H locs cells slots Q (F0 m pc ls (v :: .ref a :: rest)) := by
  obtain ⟨hi, ht, hnm⟩ := sx_in hc
  have hTB := C0.2.2.2.2.1
  exact va_put (Ts := u_ws own T N) (D := G.1) (cl := sx_cls) C0.1 C0.2.1 (fun w hw => hTB.use (hi w hw) (Or.inl (by
    obtain ⟨j, -, rfl⟩ := List.mem_map.mp hw
    unfold u_lay; split <;> rfl)) args) (fun _ h => h) _ ht hnm C0.2.2.2.1 C0.2.2.2.2.2.1 hP hD hS q0 he hc k hk (hTB.use hf (Or.inl rfl) args) (fun x hx => by rw [ho] at hx; exact hx) hfin hd hn hft hl hdg kk
theorem sx_putF (C0 : sx_C p s m c cc nL own G) {ws : va_W} {a ci idx : Nat} {T : u_T} {N : Nat} {fs : List Value} {v : Value} {ty : FieldType} (hnm0 : meth.name = "<init>") (hP : va_P G.1 sx_cls ws H) (hD : va_D A ws) (hS : va_S A s.heap H locs) (q0 : Nat) (he : ws[q0]? = some (a, .inr (ci, fs))) (hc : sx_cls[ci]? = some (own, T, N)) (k : Nat) (hk : k < N) (hf : Jvm.Cond.fieldLink own idx own (T k).2.1 (T k).2.2.1 ∈ lw_tbl) (ho : (T k).1 = own) (hfin : (T k).2.2.2 = true) (hd : parseFieldDescriptor (T k).2.2.1 = some ty) (hn : narrow ty v = v) (hft : fits ty v = true) (hl : k < fs.length) (hdg : decode cc pc = .ok (.putfield idx, 3))
    (kk : ∀ (H1 : Heap) (locs1 : List Loc), va_P G.1 sx_cls (ws.set q0 (a, .inr (ci, fs.set k v))) H1 → va_D A (ws.set q0 (a, .inr (ci, fs.set k v))) → va_S A s.heap H1 locs1 → W p l e R s m args below meth c H1 locs1 cells slots Q (F0 m (pc + 3) ls rest)) : W p l e R s m args below meth c H locs cells slots Q (F0 m pc ls (v :: .ref a :: rest)) := by
  obtain ⟨hi, ht, hnm⟩ := sx_in hc
  have hTB := C0.2.2.2.2.1
  exact va_putF (Ts := u_ws own T N) (D := G.1) (cl := sx_cls) C0.1 C0.2.1 (fun w hw => hTB.use (hi w hw) (Or.inl (by
    obtain ⟨j, -, rfl⟩ := List.mem_map.mp hw
    unfold u_lay; split <;> rfl)) args) (fun _ h => h) _ ht hnm C0.2.2.2.1 C0.2.2.2.2.2.1 hP hD hS q0 he hc k hk (hTB.use hf (Or.inl rfl) args) (fun x hx => by rw [ho] at hx; exact hx) hfin hnm0 ho hd hn hft hl hdg kk
-- arrays, places as natural numbers
theorem sx_iald (C0 : sx_C p s m c cc nL own G) {ws : va_W} {a n i : Nat} {f : Nat → Int32} {v : Int32} (hP : va_P G.1 sx_cls ws H) (q0 : Nat) (he : ws[q0]? = some (a, .inl (G.2 0, n, .inl f))) {x : Int32} (hx : x = nI i) (hi : i < n) (hn : n < 2 ^ 31) (hv : f i = v) (hdg : decode cc pc = .ok (.iaload, 1))
    (kk : W p l e R s m args below meth c H locs cells slots Q (F0 m (pc + 1) ls (.int v :: rest))) : W p l e R s m args below meth c H locs cells slots Q (F0 m pc ls (.int x :: .ref a :: rest)) := by
  subst hx; subst hv
  refine va_iald C0.1 C0.2.1 C0.2.2.2.2.2.1 hP q0 0 he rfl (vp_in_nI hi hn) hdg ?_
  rw [nI_clamp (by omega)]; exact kk
theorem sx_lald (C0 : sx_C p s m c cc nL own G) {ws : va_W} {a n i : Nat} {f : Nat → Int64} {v : Int64} (hP : va_P G.1 sx_cls ws H) (q0 : Nat) (he : ws[q0]? = some (a, .inl (G.2 1, n, .inr (.inl f)))) {x : Int32} (hx : x = nI i) (hi : i < n) (hn : n < 2 ^ 31) (hv : f i = v) (hdg : decode cc pc = .ok (.laload, 1))
    (kk : W p l e R s m args below meth c H locs cells slots Q (F0 m (pc + 1) ls (.long v :: rest))) : W p l e R s m args below meth c H locs cells slots Q (F0 m pc ls (.int x :: .ref a :: rest)) := by
  subst hx; subst hv
  refine va_lald C0.1 C0.2.1 C0.2.2.2.2.2.1 hP q0 1 he rfl (vp_in_nI hi hn) hdg ?_
  rw [nI_clamp (by omega)]; exact kk
theorem sx_zald (C0 : sx_C p s m c cc nL own G) {ws : va_W} {a n i : Nat} {f : Nat → Int32} {v : Int32} (hP : va_P G.1 sx_cls ws H) (q0 : Nat) (he : ws[q0]? = some (a, .inl (G.2 2, n, .inl f))) {x : Int32} (hx : x = nI i) (hi : i < n) (hn : n < 2 ^ 31) (hv : f i = v) (hdg : decode cc pc = .ok (.baload, 1))
    (kk : W p l e R s m args below meth c H locs cells slots Q (F0 m (pc + 1) ls (.int v :: rest))) : W p l e R s m args below meth c H locs cells slots Q (F0 m pc ls (.int x :: .ref a :: rest)) := by
  subst hx; subst hv
  refine va_zald C0.1 C0.2.1 C0.2.2.2.2.2.1 hP q0 2 he rfl (vp_in_nI hi hn) hdg ?_
  rw [nI_clamp (by omega)]; exact kk
theorem sx_iast (C0 : sx_C p s m c cc nL own G) {ws : va_W} {a n i : Nat} {f : Nat → Int32} {v : Int32} (hP : va_P G.1 sx_cls ws H) (hD : va_D A ws) (hS : va_S A s.heap H locs) (q0 : Nat) (he : ws[q0]? = some (a, .inl (G.2 0, n, .inl f))) {x : Int32} (hx : x = nI i) (hi : i < n) (hn : n < 2 ^ 31) (hdg : decode cc pc = .ok (.iastore, 1))
    (kk : ∀ (H1 : Heap) (locs1 : List Loc), va_P G.1 sx_cls (ws.set q0 (a, .inl (G.2 0, n, .inl (upd f i v)))) H1 → va_D A (ws.set q0 (a, .inl (G.2 0, n, .inl (upd f i v)))) → va_S A s.heap H1 locs1 → W p l e R s m args below meth c H1 locs1 cells slots Q (F0 m (pc + 1) ls rest)) : W p l e R s m args below meth c H locs cells slots Q (F0 m pc ls (.int v :: .int x :: .ref a :: rest)) := by
  subst hx
  refine va_iast C0.1 C0.2.1 C0.2.2.2.2.2.1 hP hD hS q0 0 he rfl (vp_in_nI hi hn) hdg (fun H1 locs1 a1 a2 a3 => ?_)
  rw [nI_clamp (by omega)] at a1 a2
  exact kk H1 locs1 a1 a2 a3
theorem sx_last (C0 : sx_C p s m c cc nL own G) {ws : va_W} {a n i : Nat} {f : Nat → Int64} {v : Int64} (hP : va_P G.1 sx_cls ws H) (hD : va_D A ws) (hS : va_S A s.heap H locs) (q0 : Nat) (he : ws[q0]? = some (a, .inl (G.2 1, n, .inr (.inl f)))) {x : Int32} (hx : x = nI i) (hi : i < n) (hn : n < 2 ^ 31) (hdg : decode cc pc = .ok (.lastore, 1))
    (kk : ∀ (H1 : Heap) (locs1 : List Loc), va_P G.1 sx_cls (ws.set q0 (a, .inl (G.2 1, n, .inr (.inl (vp_updL f i v))))) H1 → va_D A (ws.set q0 (a, .inl (G.2 1, n, .inr (.inl (vp_updL f i v))))) → va_S A s.heap H1 locs1 → W p l e R s m args below meth c H1 locs1 cells slots Q (F0 m (pc + 1) ls rest)) : W p l e R s m args below meth c H locs cells slots Q (F0 m pc ls (.long v :: .int x :: .ref a :: rest)) := by
  subst hx
  refine va_last C0.1 C0.2.1 C0.2.2.2.2.2.1 hP hD hS q0 1 he rfl (vp_in_nI hi hn) hdg (fun H1 locs1 a1 a2 a3 => ?_)
  rw [nI_clamp (by omega)] at a1 a2
  exact kk H1 locs1 a1 a2 a3
theorem sx_zast (C0 : sx_C p s m c cc nL own G) {ws : va_W} {a n i : Nat} {f : Nat → Int32} {v : Int32} (hz : vp_nar .boolean v = v) (hP : va_P G.1 sx_cls ws H) (hD : va_D A ws) (hS : va_S A s.heap H locs) (q0 : Nat) (he : ws[q0]? = some (a, .inl (G.2 2, n, .inl f))) {x : Int32} (hx : x = nI i) (hi : i < n) (hn : n < 2 ^ 31) (hdg : decode cc pc = .ok (.bastore, 1))
    (kk : ∀ (H1 : Heap) (locs1 : List Loc), va_P G.1 sx_cls (ws.set q0 (a, .inl (G.2 2, n, .inl (upd f i v)))) H1 → va_D A (ws.set q0 (a, .inl (G.2 2, n, .inl (upd f i v)))) → va_S A s.heap H1 locs1 → W p l e R s m args below meth c H1 locs1 cells slots Q (F0 m (pc + 1) ls rest)) : W p l e R s m args below meth c H locs cells slots Q (F0 m pc ls (.int v :: .int x :: .ref a :: rest)) := by
  subst hx
  refine va_zast C0.1 C0.2.1 C0.2.2.2.2.2.1 hP hD hS q0 2 he rfl (vp_in_nI hi hn) hdg (fun H1 locs1 a1 a2 a3 => ?_)
  rw [nI_clamp (by omega), hz] at a1 a2
  exact kk H1 locs1 a1 a2 a3
theorem sx_alen (C0 : sx_C p s m c cc nL own G) {ws : va_W} {a t0 : Nat} {cA : ClassId} {x : vp_A} {ty : FieldType} (hP : va_P G.1 sx_cls ws H) (q0 : Nat) (he : ws[q0]? = some (a, .inl (cA, x))) (ht : (sx_tys G)[t0]? = some (cA, ty)) {v : Int32} (hv : nI x.1 = v) (hdg : decode cc pc = .ok (.arraylength, 1))
    (kk : W p l e R s m args below meth c H locs cells slots Q (F0 m (pc + 1) ls (.int v :: rest))) : W p l e R s m args below meth c H locs cells slots Q (F0 m pc ls (.ref a :: rest)) :=
  va_alen C0.1 C0.2.1 C0.2.2.2.2.2.1 hP q0 t0 he ht hv hdg kk
/-- a new array of numbers: its class is the one that the context names -/
theorem sx_newa (C0 : sx_C p s m c cc nL own G) {ws : va_W} {atype : ArrayType} {ty : FieldType} (hty : newarray.typeOf atype = ty) (t0 : Nat) {cT : ClassId} (ht : (sx_tys G)[t0]? = some (cT, ty)) (hra : ∀ cA, va_RA s cA ty → va_RA s cT ty → cA = cT) (harr : Jvm.Cond.arrayClass ty ∈ lw_tbl) (hP : va_P G.1 sx_cls ws H) (hD : va_D A ws) (hS : va_S A s.heap H locs) (hA : ∀ q, s.heap.size ≤ q → A q)
    {n : Int32} {N' : Nat} {a0 : vp_A} (ha : ∀ cA : ClassId, vp_cell cA a0 = arrV cA N' (fun _ => defaultValue ty)) (hn : n = nI N') (hN : N' * componentBytes ty ≤ 536870912) (hN2 : N' < 2 ^ 31) (hcells : cells + 1 ≤ R.cells) (hslots : slots + N' ≤ R.slots) (hdg : decode cc pc = .ok (.newarray atype, 2))
    (kk : ∀ (q : Nat) (H1 : Heap), va_P G.1 sx_cls (ws ++ [(q, .inl (cT, a0))]) H1 → va_D A (ws ++ [(q, .inl (cT, a0))]) → va_S A s.heap H1 locs →
      W p l e R s m args below meth c H1 locs (cells + 1) (slots + N') Q (F0 m (pc + 2) ls (.ref q :: rest))) : W p l e R s m args below meth c H locs cells slots Q (F0 m pc ls (.int n :: rest)) := by
  subst hn
  have hK := C0.2.2.2.2.2.1
  refine va_newa C0.1 C0.2.1 (atype := atype) (by rw [hty]; exact C0.2.2.2.2.1.use harr (Or.inr (Or.inl ⟨ty, rfl⟩)) args) hty hK hP hD hS hA ha (nI_pos hN2) (nI_clamp hN2) hN hcells hslots hdg (fun q cA H1 hK1 h1 h2 h3 => ?_)
  have e1 : cA = cT := hra cA ((hK1.2 5 (cA, ty) rfl).2) ((hK.2 t0 _ ht).2)
  subst e1
  exact kk q H1 h1 h2 h3
-- calls
def sx_site (own : String) (idx : Nat) (y : MethodName) (w : Jvm.Cond) (n : Nat) : Prop := Jvm.Cond.methodLink own idx y ∈ lw_tbl ∧ Jvm.Cond.initialized y.cls ∈ lw_tbl ∧ w ∈ lw_tbl ∧ (y.cls ≠ "java/lang/invoke/MethodHandle" ∧ y.cls ≠ "java/lang/invoke/VarHandle") ∧ (parseMethodDescriptor y.desc).map (fun d => d.parameters.length) = some n
def sx_inst (y : MethodName) : Prop := Jvm.Cond.instanceMethod y ∈ lw_tbl ∧ Jvm.Cond.selects y.cls y y ∈ lw_tbl
theorem sx_callB (C0 : sx_C p s m c cc nL own G) {y : MethodName} {idx n maxL : Nat} {bytes : ByteArray} {ret : Option FieldType} {rm : Room} (hs : sx_site own idx y (.code y bytes maxL ret) n) (hR : rm.frames + 1 ≤ R.frames ∧ 8 + (maxL + 11) + rm.locals ≤ R.locals) : CallB R s args own idx y bytes maxL ret [.code y bytes maxL ret] rm rm.cells rm.slots n := by
  obtain ⟨h1, h2, h3, h4, h5⟩ := hs
  have hTB := C0.2.2.2.2.1
  refine ⟨rfl, rfl, hR.1, hR.2, fun w hw a' U hW => ?_, List.mem_singleton.mpr rfl, hTB.use h3 (Or.inl rfl) args, hTB.use h2 (Or.inl rfl) args, h4, fun sig h => ?_, hTB.use h1 (Or.inl rfl) args⟩
  · rw [List.mem_singleton.mp hw]
    exact (hTB.warm hW).use h3 (Or.inl rfl) a'
  · rw [h] at h5
    exact (Option.some.inj h5).symm
theorem sx_recv (C0 : sx_C p s m c cc nL own G) {ws : va_W} {k0 b ci : Nat} {C : String} {T : u_T} {N : Nat} {fs : List Value} (hP : va_P G.1 sx_cls ws H) (he : ws[k0]? = some (b, .inr (ci, fs))) (hc : sx_cls[ci]? = some (C, T, N)) : ∃ cellB : Cell, H[b]? = some cellB ∧ cellB.vm.isStatics = false ∧ s.vm.findClass C = some cellB.cls := by
  obtain ⟨r, h1, cell, q1, q2, q3, -⟩ := hP k0 _ he
  obtain ⟨-, hfc, -⟩ := C0.2.2.2.2.2.1.1 ci _ hc
  exact ⟨cell, q1, by rw [q3]; rfl, by rw [q2]; exact hfc⟩
theorem sx_blind {as : List Value} {ws : va_W} {sz : Nat} : FrameBlind (va_Pc as (sx_pre G ws sz)) := fun a U g mk q => by
  obtain ⟨q0, q1, q2, qP, qD⟩ := q
  exact ⟨q0, q1.same (U := U.calling g mk a) rfl, q2, qP, qD⟩
theorem sx_blindP {as : List Value} {ws : va_W} : FrameBlind (va_Pc as (fun U => sx_CX G U ∧ va_P G.1 sx_cls ws U.heap)) := fun a U g mk q => by
  obtain ⟨q0, q1, qP⟩ := q
  exact ⟨q0, q1.same (U := U.calling g mk a) rfl, qP⟩
theorem sx_cont {wa wc wb : va_W} {a : Array Value} {st0 : List Value} {mc ms : Nat} (hr : va_Run p l e R s m args below meth c H locs cells slots mc ms (F0 m pc ls st0) rest (sx_Q Post (va_A wc H.size) a) (va_A wc H.size)) (hP : va_P G.1 sx_cls (wa ++ (wc ++ wb)) H) (hD : va_D A (wa ++ (wc ++ wb))) (hS : va_S A s.heap H locs) (hA : ∀ q, s.heap.size ≤ q → A q)
    (kk : ∀ (v : Option Value) (H1 : Heap) (locs1 : List Loc), Post v (va_A wc H.size) H1 → (∀ w1 : va_W, va_P G.1 sx_cls w1 H1 → va_D (va_A wc H.size) w1 → va_P G.1 sx_cls (wa ++ (w1 ++ wb)) H1 ∧ va_D A (wa ++ (w1 ++ wb))) → va_S A s.heap H1 locs1 → W p l e R s m args below meth c H1 locs1 (cells + mc) (slots + ms) Q (F0 m (pc + 3) ls (v.toList ++ rest))) : W p l e R s m args below meth c H locs cells slots Q (F0 m pc ls st0) := by
  have hF := sx_midF hD hS hA
  intro T hT X
  obtain ⟨v, st₀, t, T', L, h0, X', hL, e1, e2, ⟨⟨v', hv, hq⟩, hz, hk⟩, st⟩ := hr T hT X
  cases hv
  rw [h0] at hz hk
  obtain ⟨t2, a1, b1⟩ := kk v T'.heap (locs ++ L) (by rw [e1]; exact hq) (fun w1 hp hd => sx_join hP hD hF (fun q h1 h2 => by rw [e1]; exact hk q h1 h2) hp hd)
    ⟨Nat.le_trans hS.1 (by rw [e1]; exact hz), fun q h1 h2 => by rw [e1, hk q (Nat.lt_of_lt_of_le h1 hS.1) (fun z => h2 (hF q z))]; exact hS.2.1 q h1 h2, fun q hq => by
      rcases List.mem_append.mp hq with h | h
      · exact hS.2.2 q h
      · exact hF _ (hL q h)⟩ T' rfl X'
  exact ⟨t2, st t2 a1, b1⟩
theorem sx_contP {a : Array Value} {st0 : List Value} {v : Value} (hr : va_Run p l e R s m args below meth c H locs cells slots 0 0 (F0 m pc ls st0) rest (sx_QP v a) (fun _ => False))
    (kk : W p l e R s m args below meth c H locs cells slots Q (F0 m (pc + 3) ls (v :: rest))) : W p l e R s m args below meth c H locs cells slots Q (F0 m pc ls st0) := by
  intro T hT X
  obtain ⟨v', st₀, t, T', L, h0, X', hL, e1, e2, ⟨hv, hh⟩, st⟩ := hr T hT X
  cases hv
  have hL0 : L = [] := by
    cases L with
    | nil => rfl
    | cons q L => exact (hL q List.mem_cons_self).elim
  subst hL0
  rw [List.append_nil] at X'
  obtain ⟨t2, a1, b1⟩ := kk T' (by rw [e1, hh, h0]) X'
  exact ⟨t2, st t2 a1, b1⟩
/-- invokevirtual, a method with effect -/
theorem sx_cV (C0 : sx_C p s m c cc nL own G) {y : MethodName} {idx n maxL b k0 ci N : Nat} {bytes : ByteArray} {ret : Option FieldType} {rm : Room} {As st0 : List Value} {wa wc wb : va_W} {T : u_T} {fs : List Value}
    (hM : sx_Ctr l y (.code y bytes maxL ret) rm G (.ref b :: As) wc Post) (hs : sx_site own idx y (.code y bytes maxL ret) n) (hi : sx_inst y) (hR : rm.frames + 1 ≤ R.frames ∧ 8 + (maxL + 11) + rm.locals ≤ R.locals) (hn : As.length = n) (he : wc[k0]? = some (b, .inr (ci, fs))) (hc : sx_cls[ci]? = some (y.cls, T, N))
    (hP : va_P G.1 sx_cls (wa ++ (wc ++ wb)) H) (hD : va_D A (wa ++ (wc ++ wb))) (hS : va_S A s.heap H locs) (hA : ∀ q, s.heap.size ≤ q → A q) (hsz : ls.size = nL) (hst : st0 = As.reverse ++ .ref b :: rest) (hW : (rest.map fun v => v.category).sum ≤ 8) (hdg : decode cc pc = .ok (.invokevirtual idx, 3)) (hf : cells + rm.cells ≤ R.cells ∧ slots + rm.slots ≤ R.slots)
    (kk : ∀ (v : Option Value) (H1 : Heap) (locs1 : List Loc), Post v (va_A wc H.size) H1 → (∀ w1 : va_W, va_P G.1 sx_cls w1 H1 → va_D (va_A wc H.size) w1 → va_P G.1 sx_cls (wa ++ (w1 ++ wb)) H1 ∧ va_D A (wa ++ (w1 ++ wb))) → va_S A s.heap H1 locs1 → W p l e R s m args below meth c H1 locs1 (cells + rm.cells) (slots + rm.slots) Q (F0 m (pc + 3) ls (v.toList ++ rest))) : W p l e R s m args below meth c H locs cells slots Q (F0 m pc ls st0) := by
  have hTB := C0.2.2.2.2.1
  exact sx_cont (va_runV (g := F0 m pc ls st0) (b := b) (Ts := []) ⟨C0.1, C0.2.1, C0.2.2.1, C0.2.2.2.1, fun _ h => by cases h⟩ (hM H.size) ⟨sx_callB C0 hs hR, hTB.use hi.1 (Or.inl rfl) args, hTB.use hi.2 (Or.inl rfl) args⟩
    ⟨sx_blind, sx_recv C0 (sx_mid hP) he hc, fun U hU hWm => ⟨rfl, C0.2.2.2.2.warm hWm, by rw [hU], by rw [hU]; exact sx_mid hP, sx_midD hD⟩⟩ rfl hn hsz hst (lv_room hW) hdg hf) hP hD hS hA kk
/-- invokevirtual, a pure method -/
theorem sx_cVP (C0 : sx_C p s m c cc nL own G) {y : MethodName} {idx n maxL b k0 ci N f lo : Nat} {bytes : ByteArray} {ret : Option FieldType} {As st0 : List Value} {wc : va_W} {T : u_T} {fs : List Value} {v : Value}
    (hM : sx_CtrP l y (.code y bytes maxL ret) f lo G (.ref b :: As) wc v) (hs : sx_site own idx y (.code y bytes maxL ret) n) (hi : sx_inst y) (hR : f + 1 ≤ R.frames ∧ 8 + (maxL + 11) + lo ≤ R.locals) (hn : As.length = n) (he : wc[k0]? = some (b, .inr (ci, fs))) (hc : sx_cls[ci]? = some (y.cls, T, N))
    (hP : va_P G.1 sx_cls wc H) (hsz : ls.size = nL) (hst : st0 = As.reverse ++ .ref b :: rest) (hW : (rest.map fun v => v.category).sum ≤ 8) (hdg : decode cc pc = .ok (.invokevirtual idx, 3)) (hf : cells ≤ R.cells ∧ slots ≤ R.slots)
    (kk : W p l e R s m args below meth c H locs cells slots Q (F0 m (pc + 3) ls (v :: rest))) : W p l e R s m args below meth c H locs cells slots Q (F0 m pc ls st0) := by
  have hTB := C0.2.2.2.2.1
  exact sx_contP (va_runV (g := F0 m pc ls st0) (b := b) (Ts := []) ⟨C0.1, C0.2.1, C0.2.2.1, C0.2.2.2.1, fun _ h => by cases h⟩ hM ⟨sx_callB (rm := sx_rm f 0 0 lo) C0 hs hR, hTB.use hi.1 (Or.inl rfl) args, hTB.use hi.2 (Or.inl rfl) args⟩
    ⟨sx_blindP, sx_recv C0 hP he hc, fun U hU hWm => ⟨rfl, C0.2.2.2.2.warm hWm, by rw [hU]; exact hP⟩⟩ rfl hn hsz hst (lv_room hW) hdg hf) kk
/-- invokestatic, a pure method -/
theorem sx_cSP (C0 : sx_C p s m c cc nL own G) {y : MethodName} {idx n maxL f lo : Nat} {bytes : ByteArray} {ret : Option FieldType} {As st0 : List Value} {wc : va_W} {v : Value}
    (hM : sx_CtrP l y (.code y bytes maxL ret) f lo G As wc v) (hs : sx_site own idx y (.code y bytes maxL ret) n) (hi : Jvm.Cond.static y ∈ lw_tbl) (hR : f + 1 ≤ R.frames ∧ 8 + (maxL + 11) + lo ≤ R.locals) (hn : As.length = n)
    (hP : va_P G.1 sx_cls wc H) (hsz : ls.size = nL) (hst : st0 = As.reverse ++ rest) (hW : (rest.map fun v => v.category).sum ≤ 8) (hdg : decode cc pc = .ok (.invokestatic idx, 3)) (hf : cells ≤ R.cells ∧ slots ≤ R.slots)
    (kk : W p l e R s m args below meth c H locs cells slots Q (F0 m (pc + 3) ls (v :: rest))) : W p l e R s m args below meth c H locs cells slots Q (F0 m pc ls st0) := by
  have hTB := C0.2.2.2.2.1
  exact sx_contP (va_runS (g := F0 m pc ls st0) (Ts := []) ⟨C0.1, C0.2.1, C0.2.2.1, C0.2.2.2.1, fun _ h => by cases h⟩ hM ⟨sx_callB (rm := sx_rm f 0 0 lo) C0 hs hR, hTB.use hi (Or.inl rfl) args⟩
    ⟨sx_blindP, fun U hU hWm => ⟨rfl, C0.2.2.2.2.warm hWm, by rw [hU]; exact hP⟩⟩ rfl hn hsz hst (lv_room hW) hdg hf) kk
/-- invokespecial of a constructor, with effect -/
theorem sx_cI (C0 : sx_C p s m c cc nL own G) {y : MethodName} {idx n maxL b : Nat} {bytes : ByteArray} {rm : Room} {As st0 : List Value} {wa wc wb : va_W}
    (hM : sx_Ctr l y (.code y bytes maxL none) rm G (.ref b :: As) wc Post) (hs : sx_site own idx y (.code y bytes maxL none) n) (hi : Jvm.Cond.instanceMethod y ∈ lw_tbl) (hnm : y.name = "<init>") (hR : rm.frames + 1 ≤ R.frames ∧ 8 + (maxL + 11) + rm.locals ≤ R.locals) (hn : As.length = n)
    (hP : va_P G.1 sx_cls (wa ++ (wc ++ wb)) H) (hD : va_D A (wa ++ (wc ++ wb))) (hS : va_S A s.heap H locs) (hA : ∀ q, s.heap.size ≤ q → A q) (hsz : ls.size = nL) (hst : st0 = As.reverse ++ .ref b :: rest) (hW : (rest.map fun v => v.category).sum ≤ 8) (hdg : decode cc pc = .ok (.invokespecial idx, 3)) (hf : cells + rm.cells ≤ R.cells ∧ slots + rm.slots ≤ R.slots)
    (kk : ∀ (v : Option Value) (H1 : Heap) (locs1 : List Loc), Post v (va_A wc H.size) H1 → (∀ w1 : va_W, va_P G.1 sx_cls w1 H1 → va_D (va_A wc H.size) w1 → va_P G.1 sx_cls (wa ++ (w1 ++ wb)) H1 ∧ va_D A (wa ++ (w1 ++ wb))) → va_S A s.heap H1 locs1 → W p l e R s m args below meth c H1 locs1 (cells + rm.cells) (slots + rm.slots) Q (F0 m (pc + 3) ls (v.toList ++ rest))) : W p l e R s m args below meth c H locs cells slots Q (F0 m pc ls st0) := by
  have hTB := C0.2.2.2.2.1
  exact sx_cont (va_runI (g := F0 m pc ls st0) (b := b) (Ts := []) ⟨C0.1, C0.2.1, C0.2.2.1, C0.2.2.2.1, fun _ h => by cases h⟩ (hM H.size) ⟨sx_callB C0 hs hR, hnm, hTB.use hi (Or.inl rfl) args⟩
    ⟨sx_blind, fun U hU hWm => ⟨rfl, C0.2.2.2.2.warm hWm, by rw [hU], by rw [hU]; exact sx_mid hP, sx_midD hD⟩⟩ rfl hn hsz hst (lv_room hW) hdg hf) hP hD hS hA kk
/-- the sites of a nest mate's private members -/
def sx_siteN (own : String) (idx : Nat) (y : MethodName) (host : String) (w : Jvm.Cond) (n : Nat) : Prop := Jvm.Cond.methodLinkNest own idx y host ∈ lw_tbl ∧ Jvm.Cond.initialized y.cls ∈ lw_tbl ∧ w ∈ lw_tbl ∧ (y.cls ≠ "java/lang/invoke/MethodHandle" ∧ y.cls ≠ "java/lang/invoke/VarHandle") ∧ (parseMethodDescriptor y.desc).map (fun d => d.parameters.length) = some n
theorem sx_callN (C0 : sx_C p s m c cc nL own G) {y : MethodName} {idx n maxL : Nat} {host : String} {bytes : ByteArray} {ret : Option FieldType} {rm : Room} (hs : sx_siteN own idx y host (.code y bytes maxL ret) n) (hR : rm.frames + 1 ≤ R.frames ∧ 8 + (maxL + 11) + rm.locals ≤ R.locals) : va_CN R s args own idx y host bytes maxL ret [.code y bytes maxL ret] rm rm.cells rm.slots n := by
  obtain ⟨h1, h2, h3, h4, h5⟩ := hs
  have hTB := C0.2.2.2.2.1
  refine ⟨⟨rfl, rfl, hR.1, hR.2, fun w hw a' U hW => ?_, List.mem_singleton.mpr rfl⟩, hTB.use h3 (Or.inl rfl) args, hTB.use h2 (Or.inl rfl) args, h4, fun sig h => ?_, hTB.use h1 (Or.inr (Or.inr (Or.inr (Or.inr ⟨_, _, _, _, rfl⟩)))) args⟩
  · rw [List.mem_singleton.mp hw]
    exact (hTB.warm hW).use h3 (Or.inl rfl) a'
  · rw [h] at h5
    exact (Option.some.inj h5).symm
/-- invokespecial of a nest mate's constructor -/
theorem sx_cIN (C0 : sx_C p s m c cc nL own G) {y : MethodName} {idx n maxL b : Nat} {host : String} {bytes : ByteArray} {rm : Room} {As st0 : List Value} {wa wc wb : va_W}
    (hM : sx_Ctr l y (.code y bytes maxL none) rm G (.ref b :: As) wc Post) (hs : sx_siteN own idx y host (.code y bytes maxL none) n) (hi : Jvm.Cond.instanceMethod y ∈ lw_tbl) (hnm : y.name = "<init>") (hR : rm.frames + 1 ≤ R.frames ∧ 8 + (maxL + 11) + rm.locals ≤ R.locals) (hn : As.length = n)
    (hP : va_P G.1 sx_cls (wa ++ (wc ++ wb)) H) (hD : va_D A (wa ++ (wc ++ wb))) (hS : va_S A s.heap H locs) (hA : ∀ q, s.heap.size ≤ q → A q) (hsz : ls.size = nL) (hst : st0 = As.reverse ++ .ref b :: rest) (hW : (rest.map fun v => v.category).sum ≤ 8) (hdg : decode cc pc = .ok (.invokespecial idx, 3)) (hf : cells + rm.cells ≤ R.cells ∧ slots + rm.slots ≤ R.slots)
    (kk : ∀ (v : Option Value) (H1 : Heap) (locs1 : List Loc), Post v (va_A wc H.size) H1 → (∀ w1 : va_W, va_P G.1 sx_cls w1 H1 → va_D (va_A wc H.size) w1 → va_P G.1 sx_cls (wa ++ (w1 ++ wb)) H1 ∧ va_D A (wa ++ (w1 ++ wb))) → va_S A s.heap H1 locs1 → W p l e R s m args below meth c H1 locs1 (cells + rm.cells) (slots + rm.slots) Q (F0 m (pc + 3) ls (v.toList ++ rest))) : W p l e R s m args below meth c H locs cells slots Q (F0 m pc ls st0) := by
  have hTB := C0.2.2.2.2.1
  exact sx_cont (va_runIN (g := F0 m pc ls st0) (b := b) (Ts := []) ⟨C0.1, C0.2.1, C0.2.2.1, C0.2.2.2.1, fun _ h => by cases h⟩ (hM H.size) ⟨sx_callN C0 hs hR, hnm, hTB.use hi (Or.inl rfl) args⟩
    ⟨sx_blind, fun U hU hWm => ⟨rfl, C0.2.2.2.2.warm hWm, by rw [hU], by rw [hU]; exact sx_mid hP, sx_midD hD⟩⟩ rfl hn hsz hst (lv_room hW) hdg hf) hP hD hS hA kk
/-- invokestatic of a nest mate's private method, with effect -/
theorem sx_cSN (C0 : sx_C p s m c cc nL own G) {y : MethodName} {idx n maxL : Nat} {host : String} {bytes : ByteArray} {ret : Option FieldType} {rm : Room} {As st0 : List Value} {wa wc wb : va_W}
    (hM : sx_Ctr l y (.code y bytes maxL ret) rm G As wc Post) (hs : sx_siteN own idx y host (.code y bytes maxL ret) n) (hi : Jvm.Cond.static y ∈ lw_tbl) (hR : rm.frames + 1 ≤ R.frames ∧ 8 + (maxL + 11) + rm.locals ≤ R.locals) (hn : As.length = n)
    (hP : va_P G.1 sx_cls (wa ++ (wc ++ wb)) H) (hD : va_D A (wa ++ (wc ++ wb))) (hS : va_S A s.heap H locs) (hA : ∀ q, s.heap.size ≤ q → A q) (hsz : ls.size = nL) (hst : st0 = As.reverse ++ rest) (hW : (rest.map fun v => v.category).sum ≤ 8) (hdg : decode cc pc = .ok (.invokestatic idx, 3)) (hf : cells + rm.cells ≤ R.cells ∧ slots + rm.slots ≤ R.slots)
    (kk : ∀ (v : Option Value) (H1 : Heap) (locs1 : List Loc), Post v (va_A wc H.size) H1 → (∀ w1 : va_W, va_P G.1 sx_cls w1 H1 → va_D (va_A wc H.size) w1 → va_P G.1 sx_cls (wa ++ (w1 ++ wb)) H1 ∧ va_D A (wa ++ (w1 ++ wb))) → va_S A s.heap H1 locs1 → W p l e R s m args below meth c H1 locs1 (cells + rm.cells) (slots + rm.slots) Q (F0 m (pc + 3) ls (v.toList ++ rest))) : W p l e R s m args below meth c H locs cells slots Q (F0 m pc ls st0) := by
  have hTB := C0.2.2.2.2.1
  exact sx_cont (va_runSN (g := F0 m pc ls st0) (Ts := []) ⟨C0.1, C0.2.1, C0.2.2.1, C0.2.2.2.1, fun _ h => by cases h⟩ (hM H.size) ⟨sx_callN C0 hs hR, hTB.use hi (Or.inl rfl) args, trivial⟩
    ⟨sx_blind, fun U hU hWm => ⟨rfl, C0.2.2.2.2.warm hWm, by rw [hU], by rw [hU]; exact sx_mid hP, sx_midD hD⟩⟩ rfl hn hsz hst (lv_room hW) hdg hf) hP hD hS hA kk
end SXR
end
section
/-! throwing, passing on, catching; methods with an exception table called by invokestatic -/
theorem sx_same0 {s t : State} {mc ms : Nat} (h : s.sameButNew t [] mc ms) : s.heap.size ≤ t.heap.size ∧ ∀ q, q < s.heap.size → t.heap[q]? = s.heap[q]? := by
  refine ⟨h.2.1, fun q hq => ?_⟩
  have hc : s.heap[q]? = some s.heap[q] := Array.getElem?_eq_getElem hq
  obtain ⟨c', h1, h2, h3, h4⟩ := h.2.2.2.2.2 q _ hc
  rw [hc, h1, h2]
  have : c'.slots = (s.heap[q]).slots := by
    apply Array.ext_getElem?
    intro i
    exact h4 i (by simp)
  rw [this]
section SXT
variable {p : Program} {l : Launch} {e : Env} {R : Room} {s : State} {m : MethodId} {args : Array Value} {below : List Frame} {meth : Method} {c : Code} {H : Heap} {locs : List Loc} {cells slots : Nat} {Q : State → Prop} {cc : ByteArray} {nL : Nat} {own : String} {G : sx_G} {pc : Nat} {ls : Array Slot} {rest : List Value}
/-- the machine, with x being thrown over the frame g and the heap H, comes to a state with Q -/
def sx_TW (p : Program) (l : Launch) (e : Env) (R : Room) (s : State) (m : MethodId) (args : Array Value) (below : List Frame) (meth : Method) (c : Code) (H : Heap) (locs : List Loc) (cells slots : Nat) (Q : State → Prop) (x : Addr) (g : JFrame) : Prop :=
  ∀ T : State, T.heap = H → Stand p l e R s m args below meth c T locs cells slots → ∃ t, Steps p.tables e below ((T.setTop g).pushFrame (.throwing x)) t ∧ Q t
theorem sx_thrown {T : State} (X : Stand p l e R s m args below meth c T locs cells slots) {y : MethodName} {w : Jvm.Cond} {bytes : ByteArray} {maxL : Nat} {ret : Option FieldType} {rm : Room} {P : Array Value → State → Prop} {E : String} {as : Array Value}
    (hM : MetFree l y (headSpec [w] rm) P (fun _ _ _ _ _ => True) (sx_QX E rm.cells rm.slots)) (hw : w = .code y bytes maxL ret) (hcode : w.before as T = true) (hini : (Jvm.Cond.initialized y.cls).before as T = true)
    {g : JFrame} (hg : g.method = m) (hsize : g.locals.size = c.maxLocals) {ig : Instr} {len : Nat} (hdg : decode c.code g.pc = .ok (ig, len)) (hWt : 2 * g.monitorRoom + (g.stack.map fun v => v.category).sum ≤ 8) {mk : MethodId} (hn : T.methodNamed? y = some mk)
    (hR : rm.frames + 1 ≤ R.frames ∧ 8 + (maxL + 11) + rm.locals ≤ R.locals) (hf : cells + rm.cells ≤ R.cells ∧ slots + rm.slots ≤ R.slots) (hP : P as (T.calling g mk as)) :
    ∃ (x : Addr) (ce : Cell) (T' : State), Stand p l e R s m args below meth c T' locs (cells + rm.cells) (slots + rm.slots) ∧ T.heap.size ≤ x ∧ T'.heap[x]? = some ce ∧ ce.vm.isStatics = false ∧ T.vm.findClass E = some ce.cls ∧ T.heap.size ≤ T'.heap.size ∧ (∀ q, q < T.heap.size → T'.heap[q]? = T.heap[q]?) ∧
      Steps p.tables e below (doInvoke e (T.setTop g) [] mk as).1 ((T'.setTop g).pushFrame (.throwing x)) := by
  subst hw
  obtain ⟨methY, cY, hmY, hcY, -, hlY, -⟩ := Jvm.Cond.code_spec hn hcode
  obtain ⟨kY, hkY, -⟩ := className_of_methodNamed hn
  have hinitY : kY.init = .initialized := Jvm.Cond.initialized_spec (findClass_of_methodNamed hn) hkY hini
  have h : At T g.method c below := by rw [hg]; exact X.here
  have happ : (headSpec [Jvm.Cond.code y bytes maxL ret] rm).appliesLoose y e.platform (T.calling g mk as) = true :=
    Spec.appliesLoose_calling (g := g) h hdg hn hkY hinitY
      (X.room_calling (g := g) (R' := rm) hsize hmY hcY hR.1 (by rw [hlY]; omega) hf.1 hf.2) (atoms_intro fun w hw => by rw [List.mem_singleton.mp hw]; exact hcode)
  obtain ⟨mid, hmid⟩ := h.above
  have hfr : (T.setTop g).frames = (.java g :: mid) ++ below := by rw [State.frames_setTop' g h.top, hmid]; rfl
  obtain ⟨o, s₂, hsteps, -, hend, hq⟩ := Steps.callFree hM p X.admits X.cas X.clock (acts := []) hfr happ hP trivial
  obtain ⟨x, ce, rfl, h1, h2, h3, h4, h5, h6⟩ := hq
  rw [State.frames_setTop' g h.top, X.tail] at hend
  obtain ⟨T', XT, hWT, hsame, ht⟩ := X.outOfThrown hg hend h5 h6
  rw [List.append_nil] at XT
  have hh : s₂.heap = T'.heap := by rw [ht]; exact Stand.throwing_heap T' g x
  have h0 := sx_same0 hsame
  refine ⟨x, ce, T', XT, h1, by rw [← hh]; exact h2, h3, h4, h0.1, h0.2, ?_⟩
  rw [← ht]
  exact hsteps
theorem sx_preX {as : List Value} {ws : va_W} {T : State} (hCX : sx_CX G T) (hTS : sx_TS T) (hP : va_P G.1 sx_cls ws T.heap) (g : JFrame) (mk : MethodId) : (va_Pc as (fun U => sx_CX G U ∧ sx_TS U ∧ va_P G.1 sx_cls ws U.heap)) as.toArray (T.calling g mk as.toArray) :=
  ⟨rfl, hCX.same rfl, hTS.same rfl rfl, hP⟩
/-- invokevirtual of a method that throws -/
theorem sx_cVX (C0 : sx_C p s m c cc nL own G) (hTS : sx_TS s) (hH : s.heap.size ≤ H.size ∧ ∀ q, q < s.heap.size → H[q]? = s.heap[q]?) {y : MethodName} {idx n maxL b k0 ci N : Nat} {bytes : ByteArray} {ret : Option FieldType} {rm : Room} {As st0 : List Value} {wc : va_W} {T : u_T} {fs : List Value} {E : String}
    (hM : sx_CtrX l y (.code y bytes maxL ret) rm G (.ref b :: As) wc E) (hs : sx_site own idx y (.code y bytes maxL ret) n) (hi : sx_inst y) (hR : rm.frames + 1 ≤ R.frames ∧ 8 + (maxL + 11) + rm.locals ≤ R.locals) (hn : As.length = n) (he : wc[k0]? = some (b, .inr (ci, fs))) (hc : sx_cls[ci]? = some (y.cls, T, N))
    (hP : va_P G.1 sx_cls wc H) (hsz : ls.size = nL) (hst : st0 = As.reverse ++ .ref b :: rest) (hW : (rest.map fun v => v.category).sum ≤ 8) (hdg : decode cc pc = .ok (.invokevirtual idx, 3)) (hf : cells + rm.cells ≤ R.cells ∧ slots + rm.slots ≤ R.slots)
    (kk : ∀ (x : Addr) (ce : Cell) (H1 : Heap), H.size ≤ x → H1[x]? = some ce → ce.vm.isStatics = false → s.vm.findClass E = some ce.cls → H.size ≤ H1.size → (∀ q, q < H.size → H1[q]? = H[q]?) → sx_TW p l e R s m args below meth c H1 locs (cells + rm.cells) (slots + rm.slots) Q x (F0 m pc ls rest)) : W p l e R s m args below meth c H locs cells slots Q (F0 m pc ls st0) := by
  obtain ⟨hexec, hb, hml, hown, hCX⟩ := C0
  obtain ⟨hlink, hini, hcm, hy, hd⟩ := hs
  have hTB := hCX.1
  have hcode := hTB.use hcm (Or.inl rfl) args
  obtain ⟨cellB, hcB, hoB, hclB⟩ := sx_recv ⟨hexec, hb, hml, hown, hCX⟩ hP he hc
  intro T0 hT X
  subst hst
  obtain ⟨mk, methM, hnamed, hmethM, hstM, habM⟩ := Jvm.Cond.instanceMethod_spec (hTB.use hi.1 (Or.inl rfl) args)
  obtain ⟨methM', cM, hmethM', -, -, -, -, -, -, hsigM⟩ := Jvm.Cond.code_spec hnamed hcode
  cases hmethM.symm.trans hmethM'
  obtain ⟨c2, r2, m2, q1, q2, q3, q4, kP, hkP, hkPi⟩ := Jvm.Cond.selects_spec (hTB.use hi.2 (Or.inl rfl) args)
  cases hclB.symm.trans q1
  cases (State.methodFound?_of_named hnamed hy).symm.trans q2
  cases hnamed.symm.trans q3
  have hselP : selectMethod e.platform s.vm cellB.cls mk = .method mk := by rw [Launch.admits_selectMethod X.admits]; exact q4
  have hlen : ∀ sig, parseMethodDescriptor y.desc = some sig → As.length = sig.parameters.length := fun sig h => by
    rw [h] at hd
    exact hn.trans (Option.some.inj hd).symm
  obtain ⟨vm₁, X₁, hstep₁⟩ := X.invokevirtual hexec hown (hTB.use hlink (Or.inl rfl) args) hnamed hmethM hstM hkP hkPi hy (a := b) (cell := cellB) (by rw [hT]; exact hcB)
    (fun z h => by rw [h] at hoB; cases hoB) hselP hmethM habM hkP hkPi (g := F0 m pc ls (As.reverse ++ .ref b :: rest)) rfl (argsL := As) (rest := rest) (hlen _ hsigM) rfl (by rw [hb]; exact hdg)
  have hCX1 : sx_CX G (T0.setVm vm₁) := hCX.warm X₁.warmed
  have hTS1 : sx_TS (T0.setVm vm₁) := hTS.ext X₁.warmed (fun q hq => by show T0.heap[q]? = _; rw [hT]; exact hH.2 q hq)
  obtain ⟨x, ce, T', XT, a1, a2, a3, a4, a5, a6, hsteps⟩ := sx_thrown X₁ (as := (Value.ref b :: As).toArray) hM rfl (hCX1.1.use hcm (Or.inl rfl) _) (hCX1.1.use hini (Or.inl rfl) _) (g := F0 m pc ls rest) rfl (hsz.trans hml.symm) (ig := .invokevirtual idx) (len := 3) (by rw [hb]; exact hdg) (lv_room hW) (X₁.named hnamed) hR hf
    (sx_preX hCX1 hTS1 (by show va_P G.1 sx_cls wc T0.heap; rw [hT]; exact hP) _ _)
  have hT' : (T0.setVm vm₁).heap = H := hT
  rw [hT'] at a1 a5 a6
  have a4' : s.vm.findClass E = some ce.cls := by rw [← a4, X₁.warmed.alike.findClass]
  obtain ⟨t, b1, b2⟩ := kk x ce T'.heap a1 a2 a3 a4' a5 a6 T' rfl XT
  exact ⟨t, hstep₁ _ fun acts => by rw [doInvoke_state]; exact hsteps.trans b1, b2⟩
/-- invokestatic of a method that throws -/
theorem sx_cSX (C0 : sx_C p s m c cc nL own G) (hTS : sx_TS s) (hH : s.heap.size ≤ H.size ∧ ∀ q, q < s.heap.size → H[q]? = s.heap[q]?) {y : MethodName} {idx n maxL : Nat} {bytes : ByteArray} {ret : Option FieldType} {rm : Room} {As st0 : List Value} {wc : va_W} {E : String}
    (hM : sx_CtrX l y (.code y bytes maxL ret) rm G As wc E) (hs : sx_site own idx y (.code y bytes maxL ret) n) (hi : Jvm.Cond.static y ∈ lw_tbl) (hR : rm.frames + 1 ≤ R.frames ∧ 8 + (maxL + 11) + rm.locals ≤ R.locals) (hn : As.length = n)
    (hP : va_P G.1 sx_cls wc H) (hsz : ls.size = nL) (hst : st0 = As.reverse ++ rest) (hW : (rest.map fun v => v.category).sum ≤ 8) (hdg : decode cc pc = .ok (.invokestatic idx, 3)) (hf : cells + rm.cells ≤ R.cells ∧ slots + rm.slots ≤ R.slots)
    (kk : ∀ (x : Addr) (ce : Cell) (H1 : Heap), H.size ≤ x → H1[x]? = some ce → ce.vm.isStatics = false → s.vm.findClass E = some ce.cls → H.size ≤ H1.size → (∀ q, q < H.size → H1[q]? = H[q]?) → sx_TW p l e R s m args below meth c H1 locs (cells + rm.cells) (slots + rm.slots) Q x (F0 m pc ls rest)) : W p l e R s m args below meth c H locs cells slots Q (F0 m pc ls st0) := by
  obtain ⟨hexec, hb, hml, hown, hCX⟩ := C0
  obtain ⟨hlink, hini, hcm, hy, hd⟩ := hs
  have hTB := hCX.1
  have hcode := hTB.use hcm (Or.inl rfl) args
  intro T0 hT X
  subst hst
  obtain ⟨mk, hnamed⟩ := Jvm.Cond.code_named hcode
  obtain ⟨methM, cM, hmethM, -, -, -, -, -, -, hsigM⟩ := Jvm.Cond.code_spec hnamed hcode
  have hstatic : methM.isStatic = true := Jvm.Cond.static_spec hnamed hmethM (hTB.use hi (Or.inl rfl) args)
  obtain ⟨kP, hkP, -⟩ := className_of_methodNamed hnamed
  have hinitP : kP.init = .initialized := Jvm.Cond.initialized_spec (findClass_of_methodNamed hnamed) hkP (hTB.use hini (Or.inl rfl) args)
  have hlen : ∀ sig, parseMethodDescriptor y.desc = some sig → As.length = sig.parameters.length := fun sig h => by
    rw [h] at hd
    exact hn.trans (Option.some.inj hd).symm
  obtain ⟨vm₁, X₁, hstep₁⟩ := X.invokestatic hexec hown (hTB.use hlink (Or.inl rfl) args) hnamed hmethM hstatic hkP hinitP hy (g := F0 m pc ls (As.reverse ++ rest)) rfl (argsL := As) (rest := rest) (hlen _ hsigM) rfl (by rw [hb]; exact hdg)
  have hCX1 : sx_CX G (T0.setVm vm₁) := hCX.warm X₁.warmed
  have hTS1 : sx_TS (T0.setVm vm₁) := hTS.ext X₁.warmed (fun q hq => by show T0.heap[q]? = _; rw [hT]; exact hH.2 q hq)
  obtain ⟨x, ce, T', XT, a1, a2, a3, a4, a5, a6, hsteps⟩ := sx_thrown X₁ (as := As.toArray) hM rfl (hCX1.1.use hcm (Or.inl rfl) _) (hCX1.1.use hini (Or.inl rfl) _) (g := F0 m pc ls rest) rfl (hsz.trans hml.symm) (ig := .invokestatic idx) (len := 3) (by rw [hb]; exact hdg) (lv_room hW) (X₁.named hnamed) hR hf
    (sx_preX hCX1 hTS1 (by show va_P G.1 sx_cls wc T0.heap; rw [hT]; exact hP) _ _)
  have hT' : (T0.setVm vm₁).heap = H := hT
  rw [hT'] at a1 a5 a6
  have a4' : s.vm.findClass E = some ce.cls := by rw [← a4, X₁.warmed.alike.findClass]
  obtain ⟨t, b1, b2⟩ := kk x ce T'.heap a1 a2 a3 a4' a5 a6 T' rfl XT
  exact ⟨t, hstep₁ _ fun acts => by rw [doInvoke_state]; exact hsteps.trans b1, b2⟩
/-- nobody here catches it -/
theorem sx_TW.out {E : String} {x : Addr} {ce : Cell} (he : c.exceptionTable.toList = []) (hlk : meth.locks = false) (h1 : s.heap.size ≤ x) (h2 : H[x]? = some ce) (h3 : ce.vm.isStatics = false) (h4 : s.vm.findClass E = some ce.cls) : sx_TW p l e R s m args below meth c H [] cells slots (sx_XQ below E args s cells slots) x (F0 m pc ls rest) := by
  intro T hT X
  obtain ⟨st, hrun, hend, hW, hsame⟩ := X.leaveThrown x (g := F0 m pc ls rest) rfl rfl rfl (by rw [he]; intro y hy; cases hy) hlk
  exact ⟨_, st, .threw x, hrun, hend, x, ce, rfl, h1, by show T.heap[x]? = _; rw [hT]; exact h2, h3, h4, hW, hsame⟩
/-- one entry of the table, its class maybe not yet resolved -/
theorem sx_goLink {Qh : Handler → Pre} {Eh : CtlPost} {d : Bool} {acts : List Action} {S : State} {f : JFrame} {a : Addr} {x : ExceptionTableEntry} {t : List ExceptionTableEntry} {c0 : ClassId} {cell : Cell} (hx : covers x f.pc = true) (h0 : x.catchType ≠ 0)
    (hl : S.vm.ClassLinks e.platform f.method.cls x.catchType c0) (hcell : S.heap[a]? = some cell) (hobj : ∀ k, cell.vm ≠ .statics k) (hk : ∃ k, S.vm.classes[cell.cls]? = some k) (hc : ∃ k, S.vm.classes[c0]? = some k) :
    wp (findHandler.go f a (x :: t)) Qh Eh e d acts S ↔ if S.vm.assignable cell.cls c0 = true then Qh (.found x.handlerPc) d acts (S.setVm (S.vm.noted f.method.cls x.catchType (.cls c0))) else wp (findHandler.go f a t) Qh Eh e d acts (S.setVm (S.vm.noted f.method.cls x.catchType (.cls c0))) := by
  simp only [covers] at hx
  obtain ⟨ha, ht⟩ := (resolveClass_links e.toSetting hl).op (op := VmOp.resolveClass f.method.cls x.catchType) rfl
  have hal : S.vm.Alike (S.vm.noted f.method.cls x.catchType (.cls c0)) := (Vm.Alike.refl S.vm).noted _ _ _
  obtain ⟨k1, hk1⟩ := hk
  obtain ⟨k2, hk2⟩ := hc
  obtain ⟨k1', hk1', -⟩ := hal.2.2 _ _ hk1
  obtain ⟨k2', hk2', -⟩ := hal.2.2 _ _ hk2
  have hfit' : (S.vm.noted f.method.cls x.catchType (.cls c0)).assignable cell.cls c0 = S.vm.assignable cell.cls c0 := hal.assignable _ _
  cases hfit : S.vm.assignable cell.cls c0 <;> rw [hfit] at hfit' <;> simp [findHandler.go, hx, h0, ha, ht, hcell, hobj, hk1', hk2', hfit', VmOp.dirties, VmOp.acts]
theorem sx_goYes {Qh : Handler → Pre} {Eh : CtlPost} {d : Bool} {acts : List Action} {S : State} {f : JFrame} {a : Addr} {x : ExceptionTableEntry} {t : List ExceptionTableEntry} {c0 : ClassId} {cell : Cell} (hx : covers x f.pc = true) (h0 : x.catchType ≠ 0)
    (hl : S.vm.ClassLinks e.platform f.method.cls x.catchType c0) (hcell : S.heap[a]? = some cell) (hobj : ∀ k, cell.vm ≠ .statics k) (hk : ∃ k, S.vm.classes[cell.cls]? = some k) (hc : ∃ k, S.vm.classes[c0]? = some k) (hy : S.vm.assignable cell.cls c0 = true) :
    wp (findHandler.go f a (x :: t)) Qh Eh e d acts S ↔ Qh (.found x.handlerPc) d acts (S.setVm (S.vm.noted f.method.cls x.catchType (.cls c0))) := by
  rw [sx_goLink hx h0 hl hcell hobj hk hc, if_pos hy]
theorem sx_goNo {Qh : Handler → Pre} {Eh : CtlPost} {d : Bool} {acts : List Action} {S : State} {f : JFrame} {a : Addr} {x : ExceptionTableEntry} {t : List ExceptionTableEntry} {c0 : ClassId} {cell : Cell} (hx : covers x f.pc = true) (h0 : x.catchType ≠ 0)
    (hl : S.vm.ClassLinks e.platform f.method.cls x.catchType c0) (hcell : S.heap[a]? = some cell) (hobj : ∀ k, cell.vm ≠ .statics k) (hk : ∃ k, S.vm.classes[cell.cls]? = some k) (hc : ∃ k, S.vm.classes[c0]? = some k) (hy : S.vm.assignable cell.cls c0 = false) :
    wp (findHandler.go f a (x :: t)) Qh Eh e d acts S ↔ wp (findHandler.go f a t) Qh Eh e d acts (S.setVm (S.vm.noted f.method.cls x.catchType (.cls c0))) := by
  rw [sx_goLink hx h0 hl hcell hobj hk hc, if_neg (by rw [hy]; decide)]
theorem sx_caughtStep {T target : State} {g : JFrame} {a : Addr} (h : At T g.method c below) {pc' : Nat} {vm' : Vm}
    (hfind : ∀ (Qh : Handler → Pre) (Eh : CtlPost) (d : Bool) (acts : List Action), wp (findHandler g a) Qh Eh e d acts ((T.setTop g).pushFrame (.throwing a)) ↔ Qh (.found pc') d acts (((T.setTop g).pushFrame (.throwing a)).setVm vm'))
    (hrest : Steps p.tables e below ((T.setVm vm').setTop { g with pc := pc', stack := [.ref a] }) target) : Steps p.tables e below ((T.setTop g).pushFrame (.throwing a)) target := by
  obtain ⟨hgo, hw⟩ := h.throwing a
  refine Steps.head hgo hw ?_
  have hst : ∀ (S : State) (r : List Frame), (∀ (Qh : Handler → Pre) (Eh : CtlPost) (d : Bool) (acts : List Action), wp (findHandler g a) Qh Eh e d acts S ↔ Qh (.found pc') d acts (S.setVm vm')) → (stepThrowing e S a (.java g :: r)).Is ((S.setVm vm').setFrames (.java { g with pc := pc', stack := [.ref a] } :: r)) [] := by
    intro S r hf
    simp only [stepThrowing, searchFrame, vmDo]
    generalize hr : Sem.go _ e false [] S = res
    obtain ⟨as, rfl, ha⟩ := Sem.eq_ok_of hr (a := Handler.found pc') (s' := S.setVm vm') (acts' := []) (by simp [hf _ _ _ _])
    exact ⟨rfl, ha⟩
  rw [stepThread_throwing (frames_entered h.top _), (hst _ _ hfind).1]
  obtain ⟨g₀, hg⟩ := Option.isSome_iff_exists.mp h.top
  obtain ⟨r, hr⟩ := State.topJava?_eq_some.mp hg
  have hr' : (T.setVm vm').frames = .java g₀ :: r := hr
  rw [State.setTop_of_frames _ hr'] at hrest
  have e1 : (((T.setTop g).pushFrame (.throwing a)).setVm vm').setFrames (.java { g with pc := pc', stack := [.ref a] } :: T.frames.tail) = (T.setVm vm').setFrames (.java { g with pc := pc', stack := [.ref a] } :: r) := by
    rw [State.pushFrame, State.setTop_of_frames _ hr, State.setFrames_setFrames, hr]
    show ((T.setFrames _).setVm vm').setFrames _ = _
    exact State.setFrames_setFrames (T.setVm vm') _ _
  rw [e1]
  exact hrest
/-- caught by the first entry of the table -/
theorem sx_TW.caught (C0 : sx_C p s m c cc nL own G) {E : String} {x : Addr} {ce : Cell} {st en hd ct : Nat} {more : List (Nat × Nat × Nat × Nat)} (ht : c.exceptionTable.toList.map (fun h => (h.startPc, h.endPc, h.handlerPc, h.catchType)) = (st, en, hd, ct) :: more) (h1 : st ≤ pc ∧ pc < en) (h0 : ct ≠ 0)
    (hl : Jvm.Cond.classLink own ct E ∈ lw_tbl) (hcast : Jvm.Cond.castable E E ∈ lw_tbl) (h2 : H[x]? = some ce) (h3 : ce.vm.isStatics = false) (h4 : s.vm.findClass E = some ce.cls)
    (kk : W p l e R s m args below meth c H locs cells slots Q (F0 m hd ls [.ref x])) : sx_TW p l e R s m args below meth c H locs cells slots Q x (F0 m pc ls rest) := by
  intro T hT X
  have hpl : e.platform.magicAccessors = ({} : Platform).magicAccessors := by rw [X.admits.platform]
  have hTB := C0.2.2.2.2.1
  obtain ⟨c', hc', hcl⟩ := Jvm.Cond.classLink_spec C0.2.2.2.1 (hTB.use hl (Or.inl rfl) args) e.platform hpl
  cases h4.symm.trans hc'
  obtain ⟨c3, c4, w1, w2, w3⟩ := Jvm.Cond.castable_spec (hTB.use hcast (Or.inr (Or.inr (Or.inl ⟨_, _, rfl⟩))) args)
  cases h4.symm.trans w1
  cases h4.symm.trans w2
  obtain ⟨ex, tl, he1, he2, he3⟩ : ∃ ex tl, c.exceptionTable.toList = ex :: tl ∧ (ex.startPc, ex.endPc, ex.handlerPc, ex.catchType) = (st, en, hd, ct) ∧ True := by
    cases hq : c.exceptionTable.toList with
    | nil => rw [hq] at ht; cases ht
    | cons ex tl => rw [hq] at ht; exact ⟨ex, tl, rfl, (List.cons.inj ht).1, trivial⟩
  simp only [Prod.mk.injEq] at he2
  obtain ⟨i1, i2, i3, i4⟩ := he2
  subst i1; subst i2; subst i3; subst i4
  obtain ⟨dk, _, _, kt, hd0, _, _, _, _, hkt, _, hopen⟩ := hcl.here
  obtain ⟨kt', hkt', -⟩ := X.warmed.alike.2.2 _ _ hkt
  have hWn := X.warmed.noted hd0 hopen (State.rightAt_cls hcl)
  obtain ⟨t, b1, b2⟩ := kk (T.setVm (T.vm.noted m.cls ex.catchType (.cls ce.cls))) hT (X.noted hWn)
  refine ⟨t, sx_caughtStep (g := F0 m pc ls rest) X.here (vm' := T.vm.noted m.cls ex.catchType (.cls ce.cls)) (fun Qh Eh d acts => ?_) b1, b2⟩
  rw [W.findHandler_eq (s := (T.setTop (F0 m pc ls rest)).pushFrame (.throwing x)) (f := F0 m pc ls rest) (meth := meth) (code := c) X.method' X.code, he1]
  refine (sx_goYes (S := (T.setTop (F0 m pc ls rest)).pushFrame (.throwing x)) (f := F0 m pc ls rest) (c0 := ce.cls) (cell := ce) (by simpa [covers] using h1) h0 (X.warmed.classLinks hcl) (by show T.heap[x]? = _; rw [hT]; exact h2) (VmData.ne_statics_of h3) ⟨kt', hkt'⟩ ⟨kt', hkt'⟩ (by show T.vm.assignable _ _ = true; rw [X.warmed.alike.assignable]; exact w3)).trans Iff.rfl
/-- caught by the second entry: it isn't of the first one's class -/
theorem sx_TW.caught2 (C0 : sx_C p s m c cc nL own G) {E E1 : String} {x : Addr} {ce : Cell} {st en hd ct st1 en1 hd1 ct1 : Nat} {more : List (Nat × Nat × Nat × Nat)} (ht : c.exceptionTable.toList.map (fun h => (h.startPc, h.endPc, h.handlerPc, h.catchType)) = (st1, en1, hd1, ct1) :: (st, en, hd, ct) :: more) (h1 : st ≤ pc ∧ pc < en) (h0 : ct ≠ 0) (h11 : st1 ≤ pc ∧ pc < en1) (h01 : ct1 ≠ 0) (hno : va_Nc E E1 s)
    (hl1 : Jvm.Cond.classLink own ct1 E1 ∈ lw_tbl) (hl : Jvm.Cond.classLink own ct E ∈ lw_tbl) (hcast : Jvm.Cond.castable E E ∈ lw_tbl) (h2 : H[x]? = some ce) (h3 : ce.vm.isStatics = false) (h4 : s.vm.findClass E = some ce.cls)
    (kk : W p l e R s m args below meth c H locs cells slots Q (F0 m hd ls [.ref x])) : sx_TW p l e R s m args below meth c H locs cells slots Q x (F0 m pc ls rest) := by
  intro T hT X
  have hpl : e.platform.magicAccessors = ({} : Platform).magicAccessors := by rw [X.admits.platform]
  have hTB := C0.2.2.2.2.1
  obtain ⟨c', hc', hcl⟩ := Jvm.Cond.classLink_spec C0.2.2.2.1 (hTB.use hl (Or.inl rfl) args) e.platform hpl
  cases h4.symm.trans hc'
  obtain ⟨c1, hc1, hcl1⟩ := Jvm.Cond.classLink_spec C0.2.2.2.1 (hTB.use hl1 (Or.inl rfl) args) e.platform hpl
  obtain ⟨n1, n2, g1, g2, g3⟩ := hno
  cases h4.symm.trans g1
  cases hc1.symm.trans g2
  obtain ⟨c3, c4, w1, w2, w3⟩ := Jvm.Cond.castable_spec (hTB.use hcast (Or.inr (Or.inr (Or.inl ⟨_, _, rfl⟩))) args)
  cases h4.symm.trans w1
  cases h4.symm.trans w2
  obtain ⟨ex1, ex, tl, he1, he2, he3⟩ : ∃ ex1 ex tl, c.exceptionTable.toList = ex1 :: ex :: tl ∧ (ex.startPc, ex.endPc, ex.handlerPc, ex.catchType) = (st, en, hd, ct) ∧ (ex1.startPc, ex1.endPc, ex1.handlerPc, ex1.catchType) = (st1, en1, hd1, ct1) := by
    cases hq : c.exceptionTable.toList with
    | nil => rw [hq] at ht; cases ht
    | cons ex1 tl1 =>
      cases tl1 with
      | nil => rw [hq] at ht; cases (List.cons.inj ht).2
      | cons ex tl => rw [hq] at ht; exact ⟨ex1, ex, tl, rfl, (List.cons.inj (List.cons.inj ht).2).1, (List.cons.inj ht).1⟩
  simp only [Prod.mk.injEq] at he2 he3
  obtain ⟨i1, i2, i3, i4⟩ := he2
  obtain ⟨j1, j2, j3, j4⟩ := he3
  subst i1; subst i2; subst i3; subst i4
  subst j1; subst j2; subst j3; subst j4
  obtain ⟨dk1, _, _, kt1, hd1, _, _, _, _, hkt1, _, hopen1⟩ := hcl1.here
  obtain ⟨kt1', hkt1', -⟩ := X.warmed.alike.2.2 _ _ hkt1
  have hW1 := X.warmed.noted hd1 hopen1 (State.rightAt_cls hcl1)
  obtain ⟨dk, _, _, kt, hd0, _, _, _, _, hkt, _, hopen⟩ := hcl.here
  obtain ⟨kt', hkt', -⟩ := X.warmed.alike.2.2 _ _ hkt
  obtain ⟨kt2, hkt2, -⟩ := hW1.alike.2.2 _ _ hkt
  have hWn := hW1.noted hd0 hopen (State.rightAt_cls hcl)
  obtain ⟨t, b1, b2⟩ := kk (T.setVm ((T.vm.noted m.cls ex1.catchType (.cls c1)).noted m.cls ex.catchType (.cls ce.cls))) hT (X.noted hWn)
  refine ⟨t, sx_caughtStep (g := F0 m pc ls rest) X.here (vm' := (T.vm.noted m.cls ex1.catchType (.cls c1)).noted m.cls ex.catchType (.cls ce.cls)) (fun Qh Eh d acts => ?_) b1, b2⟩
  rw [W.findHandler_eq (s := (T.setTop (F0 m pc ls rest)).pushFrame (.throwing x)) (f := F0 m pc ls rest) (meth := meth) (code := c) X.method' X.code, he1]
  refine (sx_goNo (S := (T.setTop (F0 m pc ls rest)).pushFrame (.throwing x)) (f := F0 m pc ls rest) (c0 := c1) (cell := ce) (by simpa [covers] using h11) h01 (X.warmed.classLinks hcl1) (by show T.heap[x]? = _; rw [hT]; exact h2) (VmData.ne_statics_of h3) ⟨kt', hkt'⟩ ⟨kt1', hkt1'⟩ (by show T.vm.assignable _ _ = false; rw [X.warmed.alike.assignable, g3])).trans ?_
  refine (sx_goYes (S := ((T.setTop (F0 m pc ls rest)).pushFrame (.throwing x)).setVm (T.vm.noted m.cls ex1.catchType (.cls c1))) (f := F0 m pc ls rest) (c0 := ce.cls) (cell := ce) (by simpa [covers] using h1) h0 (hW1.classLinks hcl) (by show T.heap[x]? = _; rw [hT]; exact h2) (VmData.ne_statics_of h3) ⟨kt2, hkt2⟩ ⟨kt2, hkt2⟩ (by show (T.vm.noted m.cls ex1.catchType (.cls c1)).assignable _ _ = true; rw [hW1.alike.assignable]; exact w3)).trans Iff.rfl
end SXT
end
section
theorem d_SC_longerI_0 : decode b_SC_longerI 0 = .ok (.iconst 2, 1) := by decide +kernel
theorem d_SC_longerI_1 : decode b_SC_longerI 1 = .ok (.aload_n 0, 1) := by decide +kernel
theorem d_SC_longerI_2 : decode b_SC_longerI 2 = .ok (.arraylength, 1) := by decide +kernel
theorem d_SC_longerI_3 : decode b_SC_longerI 3 = .ok (.imul, 1) := by decide +kernel
theorem d_SC_longerI_4 : decode b_SC_longerI 4 = .ok (.newarray .int, 2) := by decide +kernel
theorem d_SC_longerI_6 : decode b_SC_longerI 6 = .ok (.astore_n 1, 1) := by decide +kernel
theorem d_SC_longerI_7 : decode b_SC_longerI 7 = .ok (.iconst 0, 1) := by decide +kernel
theorem d_SC_longerI_8 : decode b_SC_longerI 8 = .ok (.istore_n 2, 1) := by decide +kernel
theorem d_SC_longerI_9 : decode b_SC_longerI 9 = .ok (.iload_n 2, 1) := by decide +kernel
theorem d_SC_longerI_10 : decode b_SC_longerI 10 = .ok (.aload_n 0, 1) := by decide +kernel
theorem d_SC_longerI_11 : decode b_SC_longerI 11 = .ok (.arraylength, 1) := by decide +kernel
theorem d_SC_longerI_12 : decode b_SC_longerI 12 = .ok (.if_icmp .ge 15, 3) := by decide +kernel
theorem d_SC_longerI_15 : decode b_SC_longerI 15 = .ok (.aload_n 1, 1) := by decide +kernel
theorem d_SC_longerI_16 : decode b_SC_longerI 16 = .ok (.iload_n 2, 1) := by decide +kernel
theorem d_SC_longerI_17 : decode b_SC_longerI 17 = .ok (.aload_n 0, 1) := by decide +kernel
theorem d_SC_longerI_18 : decode b_SC_longerI 18 = .ok (.iload_n 2, 1) := by decide +kernel
theorem d_SC_longerI_19 : decode b_SC_longerI 19 = .ok (.iaload, 1) := by decide +kernel
theorem d_SC_longerI_20 : decode b_SC_longerI 20 = .ok (.iastore, 1) := by decide +kernel
theorem d_SC_longerI_21 : decode b_SC_longerI 21 = .ok (.iinc 2 1, 3) := by decide +kernel
theorem d_SC_longerI_24 : decode b_SC_longerI 24 = .ok (.goto (-15), 3) := by decide +kernel
theorem d_SC_longerI_27 : decode b_SC_longerI 27 = .ok (.aload_n 1, 1) := by decide +kernel
theorem d_SC_longerI_28 : decode b_SC_longerI 28 = .ok (.areturn, 1) := by decide +kernel
theorem d_SC_longerJ_0 : decode b_SC_longerJ 0 = .ok (.iconst 2, 1) := by decide +kernel
theorem d_SC_longerJ_1 : decode b_SC_longerJ 1 = .ok (.aload_n 0, 1) := by decide +kernel
theorem d_SC_longerJ_2 : decode b_SC_longerJ 2 = .ok (.arraylength, 1) := by decide +kernel
theorem d_SC_longerJ_3 : decode b_SC_longerJ 3 = .ok (.imul, 1) := by decide +kernel
theorem d_SC_longerJ_4 : decode b_SC_longerJ 4 = .ok (.newarray .long, 2) := by decide +kernel
theorem d_SC_longerJ_6 : decode b_SC_longerJ 6 = .ok (.astore_n 1, 1) := by decide +kernel
theorem d_SC_longerJ_7 : decode b_SC_longerJ 7 = .ok (.iconst 0, 1) := by decide +kernel
theorem d_SC_longerJ_8 : decode b_SC_longerJ 8 = .ok (.istore_n 2, 1) := by decide +kernel
theorem d_SC_longerJ_9 : decode b_SC_longerJ 9 = .ok (.iload_n 2, 1) := by decide +kernel
theorem d_SC_longerJ_10 : decode b_SC_longerJ 10 = .ok (.aload_n 0, 1) := by decide +kernel
theorem d_SC_longerJ_11 : decode b_SC_longerJ 11 = .ok (.arraylength, 1) := by decide +kernel
theorem d_SC_longerJ_12 : decode b_SC_longerJ 12 = .ok (.if_icmp .ge 15, 3) := by decide +kernel
theorem d_SC_longerJ_15 : decode b_SC_longerJ 15 = .ok (.aload_n 1, 1) := by decide +kernel
theorem d_SC_longerJ_16 : decode b_SC_longerJ 16 = .ok (.iload_n 2, 1) := by decide +kernel
theorem d_SC_longerJ_17 : decode b_SC_longerJ 17 = .ok (.aload_n 0, 1) := by decide +kernel
theorem d_SC_longerJ_18 : decode b_SC_longerJ 18 = .ok (.iload_n 2, 1) := by decide +kernel
theorem d_SC_longerJ_19 : decode b_SC_longerJ 19 = .ok (.laload, 1) := by decide +kernel
theorem d_SC_longerJ_20 : decode b_SC_longerJ 20 = .ok (.lastore, 1) := by decide +kernel
theorem d_SC_longerJ_21 : decode b_SC_longerJ 21 = .ok (.iinc 2 1, 3) := by decide +kernel
theorem d_SC_longerJ_24 : decode b_SC_longerJ 24 = .ok (.goto (-15), 3) := by decide +kernel
theorem d_SC_longerJ_27 : decode b_SC_longerJ 27 = .ok (.aload_n 1, 1) := by decide +kernel
theorem d_SC_longerJ_28 : decode b_SC_longerJ 28 = .ok (.areturn, 1) := by decide +kernel
theorem d_SC_init_0 : decode b_SC_init 0 = .ok (.aload_n 0, 1) := by decide +kernel
theorem d_SC_init_1 : decode b_SC_init 1 = .ok (.invokespecial 1, 3) := by decide +kernel
theorem d_SC_init_4 : decode b_SC_init 4 = .ok (.aload_n 0, 1) := by decide +kernel
theorem d_SC_init_5 : decode b_SC_init 5 = .ok (.new 7, 3) := by decide +kernel
theorem d_SC_init_8 : decode b_SC_init 8 = .ok (.dup, 1) := by decide +kernel
theorem d_SC_init_9 : decode b_SC_init 9 = .ok (.invokespecial 9, 3) := by decide +kernel
theorem d_SC_init_12 : decode b_SC_init 12 = .ok (.putfield 10, 3) := by decide +kernel
theorem d_SC_init_15 : decode b_SC_init 15 = .ok (.aload_n 0, 1) := by decide +kernel
theorem d_SC_init_16 : decode b_SC_init 16 = .ok (.bipush 30, 2) := by decide +kernel
theorem d_SC_init_18 : decode b_SC_init 18 = .ok (.newarray .int, 2) := by decide +kernel
theorem d_SC_init_20 : decode b_SC_init 20 = .ok (.putfield 16, 3) := by decide +kernel
theorem d_SC_init_23 : decode b_SC_init 23 = .ok (.aload_n 0, 1) := by decide +kernel
theorem d_SC_init_24 : decode b_SC_init 24 = .ok (.bipush 30, 2) := by decide +kernel
theorem d_SC_init_26 : decode b_SC_init 26 = .ok (.newarray .int, 2) := by decide +kernel
theorem d_SC_init_28 : decode b_SC_init 28 = .ok (.putfield 20, 3) := by decide +kernel
theorem d_SC_init_31 : decode b_SC_init 31 = .ok (.aload_n 0, 1) := by decide +kernel
theorem d_SC_init_32 : decode b_SC_init 32 = .ok (.bipush 30, 2) := by decide +kernel
theorem d_SC_init_34 : decode b_SC_init 34 = .ok (.newarray .int, 2) := by decide +kernel
theorem d_SC_init_36 : decode b_SC_init 36 = .ok (.putfield 23, 3) := by decide +kernel
theorem d_SC_init_39 : decode b_SC_init 39 = .ok (.return_, 1) := by decide +kernel
theorem d_SC_place_0 : decode b_SC_place 0 = .ok (.iload_n 0, 1) := by decide +kernel
theorem d_SC_place_1 : decode b_SC_place 1 = .ok (.ifCond .lt 18, 3) := by decide +kernel
theorem d_SC_place_4 : decode b_SC_place 4 = .ok (.iload_n 0, 1) := by decide +kernel
theorem d_SC_place_5 : decode b_SC_place 5 = .ok (.iconst 4, 1) := by decide +kernel
theorem d_SC_place_6 : decode b_SC_place 6 = .ok (.if_icmp .ge 13, 3) := by decide +kernel
theorem d_SC_place_9 : decode b_SC_place 9 = .ok (.iload_n 1, 1) := by decide +kernel
theorem d_SC_place_10 : decode b_SC_place 10 = .ok (.ifCond .lt 9, 3) := by decide +kernel
theorem d_SC_place_13 : decode b_SC_place 13 = .ok (.iload_n 1, 1) := by decide +kernel
theorem d_SC_place_14 : decode b_SC_place 14 = .ok (.bipush 64, 2) := by decide +kernel
theorem d_SC_place_16 : decode b_SC_place 16 = .ok (.if_icmp .lt 11, 3) := by decide +kernel
theorem d_SC_place_19 : decode b_SC_place 19 = .ok (.new 26, 3) := by decide +kernel
theorem d_SC_place_22 : decode b_SC_place 22 = .ok (.dup, 1) := by decide +kernel
theorem d_SC_place_23 : decode b_SC_place 23 = .ok (.invokespecial 28, 3) := by decide +kernel
theorem d_SC_place_26 : decode b_SC_place 26 = .ok (.athrow, 1) := by decide +kernel
theorem d_SC_place_27 : decode b_SC_place 27 = .ok (.bipush 64, 2) := by decide +kernel
theorem d_SC_place_29 : decode b_SC_place 29 = .ok (.iload_n 0, 1) := by decide +kernel
theorem d_SC_place_30 : decode b_SC_place 30 = .ok (.imul, 1) := by decide +kernel
theorem d_SC_place_31 : decode b_SC_place 31 = .ok (.iload_n 1, 1) := by decide +kernel
theorem d_SC_place_32 : decode b_SC_place 32 = .ok (.iadd, 1) := by decide +kernel
theorem d_SC_place_33 : decode b_SC_place 33 = .ok (.ireturn, 1) := by decide +kernel
theorem d_SC_begin_0 : decode b_SC_begin 0 = .ok (.aload_n 0, 1) := by decide +kernel
theorem d_SC_begin_1 : decode b_SC_begin 1 = .ok (.getfield 10, 3) := by decide +kernel
theorem d_SC_begin_4 : decode b_SC_begin 4 = .ok (.invokevirtual 29, 3) := by decide +kernel
theorem d_SC_begin_7 : decode b_SC_begin 7 = .ok (.aload_n 0, 1) := by decide +kernel
theorem d_SC_begin_8 : decode b_SC_begin 8 = .ok (.iconst 0, 1) := by decide +kernel
theorem d_SC_begin_9 : decode b_SC_begin 9 = .ok (.putfield 32, 3) := by decide +kernel
theorem d_SC_begin_12 : decode b_SC_begin 12 = .ok (.aload_n 0, 1) := by decide +kernel
theorem d_SC_begin_13 : decode b_SC_begin 13 = .ok (.getfield 10, 3) := by decide +kernel
theorem d_SC_begin_16 : decode b_SC_begin 16 = .ok (.invokevirtual 36, 3) := by decide +kernel
theorem d_SC_begin_19 : decode b_SC_begin 19 = .ok (.ireturn, 1) := by decide +kernel
theorem d_SC_open_0 : decode b_SC_open 0 = .ok (.aload_n 0, 1) := by decide +kernel
theorem d_SC_open_1 : decode b_SC_open 1 = .ok (.getfield 32, 3) := by decide +kernel
theorem d_SC_open_4 : decode b_SC_open 4 = .ok (.bipush 30, 2) := by decide +kernel
theorem d_SC_open_6 : decode b_SC_open 6 = .ok (.if_icmp .ne 11, 3) := by decide +kernel
theorem d_SC_open_9 : decode b_SC_open 9 = .ok (.new 40, 3) := by decide +kernel
theorem d_SC_open_12 : decode b_SC_open 12 = .ok (.dup, 1) := by decide +kernel
theorem d_SC_open_13 : decode b_SC_open 13 = .ok (.invokespecial 42, 3) := by decide +kernel
theorem d_SC_open_16 : decode b_SC_open 16 = .ok (.athrow, 1) := by decide +kernel
theorem d_SC_open_17 : decode b_SC_open 17 = .ok (.aload_n 0, 1) := by decide +kernel
theorem d_SC_open_18 : decode b_SC_open 18 = .ok (.getfield 16, 3) := by decide +kernel
theorem d_SC_open_21 : decode b_SC_open 21 = .ok (.aload_n 0, 1) := by decide +kernel
theorem d_SC_open_22 : decode b_SC_open 22 = .ok (.getfield 32, 3) := by decide +kernel
theorem d_SC_open_25 : decode b_SC_open 25 = .ok (.aload_n 0, 1) := by decide +kernel
theorem d_SC_open_26 : decode b_SC_open 26 = .ok (.getfield 10, 3) := by decide +kernel
theorem d_SC_open_29 : decode b_SC_open 29 = .ok (.invokevirtual 43, 3) := by decide +kernel
theorem d_SC_open_32 : decode b_SC_open 32 = .ok (.iastore, 1) := by decide +kernel
theorem d_SC_open_33 : decode b_SC_open 33 = .ok (.aload_n 0, 1) := by decide +kernel
theorem d_SC_open_34 : decode b_SC_open 34 = .ok (.getfield 20, 3) := by decide +kernel
theorem d_SC_open_37 : decode b_SC_open 37 = .ok (.aload_n 0, 1) := by decide +kernel
theorem d_SC_open_38 : decode b_SC_open 38 = .ok (.getfield 32, 3) := by decide +kernel
theorem d_SC_open_41 : decode b_SC_open 41 = .ok (.aload_n 0, 1) := by decide +kernel
theorem d_SC_open_42 : decode b_SC_open 42 = .ok (.getfield 10, 3) := by decide +kernel
theorem d_SC_open_45 : decode b_SC_open 45 = .ok (.invokevirtual 46, 3) := by decide +kernel
theorem d_SC_open_48 : decode b_SC_open 48 = .ok (.iastore, 1) := by decide +kernel
theorem d_SC_open_49 : decode b_SC_open 49 = .ok (.aload_n 0, 1) := by decide +kernel
theorem d_SC_open_50 : decode b_SC_open 50 = .ok (.getfield 23, 3) := by decide +kernel
theorem d_SC_open_53 : decode b_SC_open 53 = .ok (.aload_n 0, 1) := by decide +kernel
theorem d_SC_open_54 : decode b_SC_open 54 = .ok (.getfield 32, 3) := by decide +kernel
theorem d_SC_open_57 : decode b_SC_open 57 = .ok (.aload_n 0, 1) := by decide +kernel
theorem d_SC_open_58 : decode b_SC_open 58 = .ok (.getfield 10, 3) := by decide +kernel
theorem d_SC_open_61 : decode b_SC_open 61 = .ok (.invokevirtual 49, 3) := by decide +kernel
theorem d_SC_open_64 : decode b_SC_open 64 = .ok (.iastore, 1) := by decide +kernel
theorem d_SC_open_65 : decode b_SC_open 65 = .ok (.aload_n 0, 1) := by decide +kernel
theorem d_SC_open_66 : decode b_SC_open 66 = .ok (.dup, 1) := by decide +kernel
theorem d_SC_open_67 : decode b_SC_open 67 = .ok (.getfield 32, 3) := by decide +kernel
theorem d_SC_open_70 : decode b_SC_open 70 = .ok (.iconst 1, 1) := by decide +kernel
theorem d_SC_open_71 : decode b_SC_open 71 = .ok (.iadd, 1) := by decide +kernel
theorem d_SC_open_72 : decode b_SC_open 72 = .ok (.putfield 32, 3) := by decide +kernel
theorem d_SC_open_75 : decode b_SC_open 75 = .ok (.aload_n 0, 1) := by decide +kernel
theorem d_SC_open_76 : decode b_SC_open 76 = .ok (.getfield 32, 3) := by decide +kernel
theorem d_SC_open_79 : decode b_SC_open 79 = .ok (.ireturn, 1) := by decide +kernel
theorem d_SC_close_0 : decode b_SC_close 0 = .ok (.aload_n 0, 1) := by decide +kernel
theorem d_SC_close_1 : decode b_SC_close 1 = .ok (.getfield 32, 3) := by decide +kernel
theorem d_SC_close_4 : decode b_SC_close 4 = .ok (.ifCond .ne 11, 3) := by decide +kernel
theorem d_SC_close_7 : decode b_SC_close 7 = .ok (.new 52, 3) := by decide +kernel
theorem d_SC_close_10 : decode b_SC_close 10 = .ok (.dup, 1) := by decide +kernel
theorem d_SC_close_11 : decode b_SC_close 11 = .ok (.invokespecial 54, 3) := by decide +kernel
theorem d_SC_close_14 : decode b_SC_close 14 = .ok (.athrow, 1) := by decide +kernel
theorem d_SC_close_15 : decode b_SC_close 15 = .ok (.aload_n 0, 1) := by decide +kernel
theorem d_SC_close_16 : decode b_SC_close 16 = .ok (.dup, 1) := by decide +kernel
theorem d_SC_close_17 : decode b_SC_close 17 = .ok (.getfield 32, 3) := by decide +kernel
theorem d_SC_close_20 : decode b_SC_close 20 = .ok (.iconst 1, 1) := by decide +kernel
theorem d_SC_close_21 : decode b_SC_close 21 = .ok (.isub, 1) := by decide +kernel
theorem d_SC_close_22 : decode b_SC_close 22 = .ok (.putfield 32, 3) := by decide +kernel
theorem d_SC_close_25 : decode b_SC_close 25 = .ok (.iload_n 1, 1) := by decide +kernel
theorem d_SC_close_26 : decode b_SC_close 26 = .ok (.ifCond .ne 37, 3) := by decide +kernel
theorem d_SC_close_29 : decode b_SC_close 29 = .ok (.aload_n 0, 1) := by decide +kernel
theorem d_SC_close_30 : decode b_SC_close 30 = .ok (.getfield 10, 3) := by decide +kernel
theorem d_SC_close_33 : decode b_SC_close 33 = .ok (.aload_n 0, 1) := by decide +kernel
theorem d_SC_close_34 : decode b_SC_close 34 = .ok (.getfield 16, 3) := by decide +kernel
theorem d_SC_close_37 : decode b_SC_close 37 = .ok (.aload_n 0, 1) := by decide +kernel
theorem d_SC_close_38 : decode b_SC_close 38 = .ok (.getfield 32, 3) := by decide +kernel
theorem d_SC_close_41 : decode b_SC_close 41 = .ok (.iaload, 1) := by decide +kernel
theorem d_SC_close_42 : decode b_SC_close 42 = .ok (.aload_n 0, 1) := by decide +kernel
theorem d_SC_close_43 : decode b_SC_close 43 = .ok (.getfield 20, 3) := by decide +kernel
theorem d_SC_close_46 : decode b_SC_close 46 = .ok (.aload_n 0, 1) := by decide +kernel
theorem d_SC_close_47 : decode b_SC_close 47 = .ok (.getfield 32, 3) := by decide +kernel
theorem d_SC_close_50 : decode b_SC_close 50 = .ok (.iaload, 1) := by decide +kernel
theorem d_SC_close_51 : decode b_SC_close 51 = .ok (.aload_n 0, 1) := by decide +kernel
theorem d_SC_close_52 : decode b_SC_close 52 = .ok (.getfield 23, 3) := by decide +kernel
theorem d_SC_close_55 : decode b_SC_close 55 = .ok (.aload_n 0, 1) := by decide +kernel
theorem d_SC_close_56 : decode b_SC_close 56 = .ok (.getfield 32, 3) := by decide +kernel
theorem d_SC_close_59 : decode b_SC_close 59 = .ok (.iaload, 1) := by decide +kernel
theorem d_SC_close_60 : decode b_SC_close 60 = .ok (.invokevirtual 55, 3) := by decide +kernel
theorem d_SC_close_63 : decode b_SC_close 63 = .ok (.aload_n 0, 1) := by decide +kernel
theorem d_SC_close_64 : decode b_SC_close 64 = .ok (.getfield 32, 3) := by decide +kernel
theorem d_SC_close_67 : decode b_SC_close 67 = .ok (.ireturn, 1) := by decide +kernel
theorem d_SC_load_0 : decode b_SC_load 0 = .ok (.aload_n 0, 1) := by decide +kernel
theorem d_SC_load_1 : decode b_SC_load 1 = .ok (.getfield 10, 3) := by decide +kernel
theorem d_SC_load_4 : decode b_SC_load 4 = .ok (.iload_n 1, 1) := by decide +kernel
theorem d_SC_load_5 : decode b_SC_load 5 = .ok (.iload_n 2, 1) := by decide +kernel
theorem d_SC_load_6 : decode b_SC_load 6 = .ok (.invokestatic 59, 3) := by decide +kernel
theorem d_SC_load_9 : decode b_SC_load 9 = .ok (.invokevirtual 63, 3) := by decide +kernel
theorem d_SC_load_12 : decode b_SC_load 12 = .ok (.ifCond .eq 9, 3) := by decide +kernel
theorem d_SC_load_15 : decode b_SC_load 15 = .ok (.sipush 2100, 3) := by decide +kernel
theorem d_SC_load_18 : decode b_SC_load 18 = .ok (.goto 5, 3) := by decide +kernel
theorem d_SC_load_21 : decode b_SC_load 21 = .ok (.bipush 100, 2) := by decide +kernel
theorem d_SC_load_23 : decode b_SC_load 23 = .ok (.ireturn, 1) := by decide +kernel
theorem d_SC_store_0 : decode b_SC_store 0 = .ok (.iload_n 1, 1) := by decide +kernel
theorem d_SC_store_1 : decode b_SC_store 1 = .ok (.iload_n 2, 1) := by decide +kernel
theorem d_SC_store_2 : decode b_SC_store 2 = .ok (.invokestatic 59, 3) := by decide +kernel
theorem d_SC_store_5 : decode b_SC_store 5 = .ok (.istore 6, 2) := by decide +kernel
theorem d_SC_store_7 : decode b_SC_store 7 = .ok (.aload_n 0, 1) := by decide +kernel
theorem d_SC_store_8 : decode b_SC_store 8 = .ok (.getfield 10, 3) := by decide +kernel
theorem d_SC_store_11 : decode b_SC_store 11 = .ok (.iload 6, 2) := by decide +kernel
theorem d_SC_store_13 : decode b_SC_store 13 = .ok (.lload_n 3, 1) := by decide +kernel
theorem d_SC_store_14 : decode b_SC_store 14 = .ok (.invokevirtual 67, 3) := by decide +kernel
theorem d_SC_store_17 : decode b_SC_store 17 = .ok (.istore 7, 2) := by decide +kernel
theorem d_SC_store_19 : decode b_SC_store 19 = .ok (.iload 5, 2) := by decide +kernel
theorem d_SC_store_21 : decode b_SC_store 21 = .ok (.sipush 2300, 3) := by decide +kernel
theorem d_SC_store_24 : decode b_SC_store 24 = .ok (.if_icmp .le 10, 3) := by decide +kernel
theorem d_SC_store_27 : decode b_SC_store 27 = .ok (.iload 7, 2) := by decide +kernel
theorem d_SC_store_29 : decode b_SC_store 29 = .ok (.iload 5, 2) := by decide +kernel
theorem d_SC_store_31 : decode b_SC_store 31 = .ok (.if_icmp .le 11, 3) := by decide +kernel
theorem d_SC_store_34 : decode b_SC_store 34 = .ok (.new 52, 3) := by decide +kernel
theorem d_SC_store_37 : decode b_SC_store 37 = .ok (.dup, 1) := by decide +kernel
theorem d_SC_store_38 : decode b_SC_store 38 = .ok (.invokespecial 54, 3) := by decide +kernel
theorem d_SC_store_41 : decode b_SC_store 41 = .ok (.athrow, 1) := by decide +kernel
theorem d_SC_store_42 : decode b_SC_store 42 = .ok (.aload_n 0, 1) := by decide +kernel
theorem d_SC_store_43 : decode b_SC_store 43 = .ok (.getfield 10, 3) := by decide +kernel
theorem d_SC_store_46 : decode b_SC_store 46 = .ok (.iload 6, 2) := by decide +kernel
theorem d_SC_store_48 : decode b_SC_store 48 = .ok (.invokevirtual 63, 3) := by decide +kernel
theorem d_SC_store_51 : decode b_SC_store 51 = .ok (.pop, 1) := by decide +kernel
theorem d_SC_store_52 : decode b_SC_store 52 = .ok (.aload_n 0, 1) := by decide +kernel
theorem d_SC_store_53 : decode b_SC_store 53 = .ok (.getfield 10, 3) := by decide +kernel
theorem d_SC_store_56 : decode b_SC_store 56 = .ok (.iload 6, 2) := by decide +kernel
theorem d_SC_store_58 : decode b_SC_store 58 = .ok (.lload_n 3, 1) := by decide +kernel
theorem d_SC_store_59 : decode b_SC_store 59 = .ok (.invokevirtual 71, 3) := by decide +kernel
theorem d_SC_store_62 : decode b_SC_store 62 = .ok (.iload 7, 2) := by decide +kernel
theorem d_SC_store_64 : decode b_SC_store 64 = .ok (.ireturn, 1) := by decide +kernel
theorem d_SC_held_0 : decode b_SC_held 0 = .ok (.iload_n 1, 1) := by decide +kernel
theorem d_SC_held_1 : decode b_SC_held 1 = .ok (.iload_n 2, 1) := by decide +kernel
theorem d_SC_held_2 : decode b_SC_held 2 = .ok (.invokestatic 59, 3) := by decide +kernel
theorem d_SC_held_5 : decode b_SC_held 5 = .ok (.istore 4, 2) := by decide +kernel
theorem d_SC_held_7 : decode b_SC_held 7 = .ok (.iload_n 3, 1) := by decide +kernel
theorem d_SC_held_8 : decode b_SC_held 8 = .ok (.ifCond .eq 15, 3) := by decide +kernel
theorem d_SC_held_11 : decode b_SC_held 11 = .ok (.aload_n 0, 1) := by decide +kernel
theorem d_SC_held_12 : decode b_SC_held 12 = .ok (.getfield 10, 3) := by decide +kernel
theorem d_SC_held_15 : decode b_SC_held 15 = .ok (.iload 4, 2) := by decide +kernel
theorem d_SC_held_17 : decode b_SC_held 17 = .ok (.invokevirtual 75, 3) := by decide +kernel
theorem d_SC_held_20 : decode b_SC_held 20 = .ok (.goto 12, 3) := by decide +kernel
theorem d_SC_held_23 : decode b_SC_held 23 = .ok (.aload_n 0, 1) := by decide +kernel
theorem d_SC_held_24 : decode b_SC_held 24 = .ok (.getfield 10, 3) := by decide +kernel
theorem d_SC_held_27 : decode b_SC_held 27 = .ok (.iload 4, 2) := by decide +kernel
theorem d_SC_held_29 : decode b_SC_held 29 = .ok (.invokevirtual 79, 3) := by decide +kernel
theorem d_SC_held_32 : decode b_SC_held 32 = .ok (.lreturn, 1) := by decide +kernel
theorem d_SC_touched_0 : decode b_SC_touched 0 = .ok (.aload_n 0, 1) := by decide +kernel
theorem d_SC_touched_1 : decode b_SC_touched 1 = .ok (.getfield 10, 3) := by decide +kernel
theorem d_SC_touched_4 : decode b_SC_touched 4 = .ok (.iload_n 1, 1) := by decide +kernel
theorem d_SC_touched_5 : decode b_SC_touched 5 = .ok (.iload_n 2, 1) := by decide +kernel
theorem d_SC_touched_6 : decode b_SC_touched 6 = .ok (.invokestatic 59, 3) := by decide +kernel
theorem d_SC_touched_9 : decode b_SC_touched 9 = .ok (.invokevirtual 82, 3) := by decide +kernel
theorem d_SC_touched_12 : decode b_SC_touched 12 = .ok (.ireturn, 1) := by decide +kernel
theorem d_SC_count_0 : decode b_SC_count 0 = .ok (.iload_n 1, 1) := by decide +kernel
theorem d_SC_count_1 : decode b_SC_count 1 = .ok (.ifCond .lt 8, 3) := by decide +kernel
theorem d_SC_count_4 : decode b_SC_count 4 = .ok (.iload_n 1, 1) := by decide +kernel
theorem d_SC_count_5 : decode b_SC_count 5 = .ok (.iconst 3, 1) := by decide +kernel
theorem d_SC_count_6 : decode b_SC_count 6 = .ok (.if_icmp .le 11, 3) := by decide +kernel
theorem d_SC_count_9 : decode b_SC_count 9 = .ok (.new 26, 3) := by decide +kernel
theorem d_SC_count_12 : decode b_SC_count 12 = .ok (.dup, 1) := by decide +kernel
theorem d_SC_count_13 : decode b_SC_count 13 = .ok (.invokespecial 28, 3) := by decide +kernel
theorem d_SC_count_16 : decode b_SC_count 16 = .ok (.athrow, 1) := by decide +kernel
theorem d_SC_count_17 : decode b_SC_count 17 = .ok (.iload_n 1, 1) := by decide +kernel
theorem d_SC_count_18 : decode b_SC_count 18 = .ok (.ifCond .ne 13, 3) := by decide +kernel
theorem d_SC_count_21 : decode b_SC_count 21 = .ok (.aload_n 0, 1) := by decide +kernel
theorem d_SC_count_22 : decode b_SC_count 22 = .ok (.getfield 10, 3) := by decide +kernel
theorem d_SC_count_25 : decode b_SC_count 25 = .ok (.invokevirtual 49, 3) := by decide +kernel
theorem d_SC_count_28 : decode b_SC_count 28 = .ok (.goto 37, 3) := by decide +kernel
theorem d_SC_count_31 : decode b_SC_count 31 = .ok (.iload_n 1, 1) := by decide +kernel
theorem d_SC_count_32 : decode b_SC_count 32 = .ok (.iconst 1, 1) := by decide +kernel
theorem d_SC_count_33 : decode b_SC_count 33 = .ok (.if_icmp .ne 13, 3) := by decide +kernel
theorem d_SC_count_36 : decode b_SC_count 36 = .ok (.aload_n 0, 1) := by decide +kernel
theorem d_SC_count_37 : decode b_SC_count 37 = .ok (.getfield 10, 3) := by decide +kernel
theorem d_SC_count_40 : decode b_SC_count 40 = .ok (.invokevirtual 46, 3) := by decide +kernel
theorem d_SC_count_43 : decode b_SC_count 43 = .ok (.goto 22, 3) := by decide +kernel
theorem d_SC_count_46 : decode b_SC_count 46 = .ok (.iload_n 1, 1) := by decide +kernel
theorem d_SC_count_47 : decode b_SC_count 47 = .ok (.iconst 2, 1) := by decide +kernel
theorem d_SC_count_48 : decode b_SC_count 48 = .ok (.if_icmp .ne 10, 3) := by decide +kernel
theorem d_SC_count_51 : decode b_SC_count 51 = .ok (.aload_n 0, 1) := by decide +kernel
theorem d_SC_count_52 : decode b_SC_count 52 = .ok (.getfield 32, 3) := by decide +kernel
theorem d_SC_count_55 : decode b_SC_count 55 = .ok (.goto 10, 3) := by decide +kernel
theorem d_SC_count_58 : decode b_SC_count 58 = .ok (.aload_n 0, 1) := by decide +kernel
theorem d_SC_count_59 : decode b_SC_count 59 = .ok (.getfield 10, 3) := by decide +kernel
theorem d_SC_count_62 : decode b_SC_count 62 = .ok (.invokevirtual 36, 3) := by decide +kernel
theorem d_SC_count_65 : decode b_SC_count 65 = .ok (.ireturn, 1) := by decide +kernel
theorem d_ST_init_0 : decode b_ST_init 0 = .ok (.aload_n 0, 1) := by decide +kernel
theorem d_ST_init_1 : decode b_ST_init 1 = .ok (.invokespecial 3, 3) := by decide +kernel
theorem d_ST_init_4 : decode b_ST_init 4 = .ok (.aload_n 0, 1) := by decide +kernel
theorem d_ST_init_5 : decode b_ST_init 5 = .ok (.sipush 256, 3) := by decide +kernel
theorem d_ST_init_8 : decode b_ST_init 8 = .ok (.newarray .long, 2) := by decide +kernel
theorem d_ST_init_10 : decode b_ST_init 10 = .ok (.putfield 9, 3) := by decide +kernel
theorem d_ST_init_13 : decode b_ST_init 13 = .ok (.aload_n 0, 1) := by decide +kernel
theorem d_ST_init_14 : decode b_ST_init 14 = .ok (.sipush 256, 3) := by decide +kernel
theorem d_ST_init_17 : decode b_ST_init 17 = .ok (.newarray .long, 2) := by decide +kernel
theorem d_ST_init_19 : decode b_ST_init 19 = .ok (.putfield 15, 3) := by decide +kernel
theorem d_ST_init_22 : decode b_ST_init 22 = .ok (.aload_n 0, 1) := by decide +kernel
theorem d_ST_init_23 : decode b_ST_init 23 = .ok (.sipush 256, 3) := by decide +kernel
theorem d_ST_init_26 : decode b_ST_init 26 = .ok (.newarray .boolean, 2) := by decide +kernel
theorem d_ST_init_28 : decode b_ST_init 28 = .ok (.putfield 18, 3) := by decide +kernel
theorem d_ST_init_31 : decode b_ST_init 31 = .ok (.aload_n 0, 1) := by decide +kernel
theorem d_ST_init_32 : decode b_ST_init 32 = .ok (.sipush 256, 3) := by decide +kernel
theorem d_ST_init_35 : decode b_ST_init 35 = .ok (.newarray .int, 2) := by decide +kernel
theorem d_ST_init_37 : decode b_ST_init 37 = .ok (.putfield 22, 3) := by decide +kernel
theorem d_ST_init_40 : decode b_ST_init 40 = .ok (.aload_n 0, 1) := by decide +kernel
theorem d_ST_init_41 : decode b_ST_init 41 = .ok (.bipush 64, 2) := by decide +kernel
theorem d_ST_init_43 : decode b_ST_init 43 = .ok (.newarray .int, 2) := by decide +kernel
theorem d_ST_init_45 : decode b_ST_init 45 = .ok (.putfield 26, 3) := by decide +kernel
theorem d_ST_init_48 : decode b_ST_init 48 = .ok (.aload_n 0, 1) := by decide +kernel
theorem d_ST_init_49 : decode b_ST_init 49 = .ok (.bipush 64, 2) := by decide +kernel
theorem d_ST_init_51 : decode b_ST_init 51 = .ok (.newarray .long, 2) := by decide +kernel
theorem d_ST_init_53 : decode b_ST_init 53 = .ok (.putfield 29, 3) := by decide +kernel
theorem d_ST_init_56 : decode b_ST_init 56 = .ok (.return_, 1) := by decide +kernel
theorem d_ST_value_0 : decode b_ST_value 0 = .ok (.aload_n 0, 1) := by decide +kernel
theorem d_ST_value_1 : decode b_ST_value 1 = .ok (.getfield 9, 3) := by decide +kernel
theorem d_ST_value_4 : decode b_ST_value 4 = .ok (.iload_n 1, 1) := by decide +kernel
theorem d_ST_value_5 : decode b_ST_value 5 = .ok (.laload, 1) := by decide +kernel
theorem d_ST_value_6 : decode b_ST_value 6 = .ok (.lreturn, 1) := by decide +kernel
theorem d_ST_first_0 : decode b_ST_first 0 = .ok (.aload_n 0, 1) := by decide +kernel
theorem d_ST_first_1 : decode b_ST_first 1 = .ok (.getfield 15, 3) := by decide +kernel
theorem d_ST_first_4 : decode b_ST_first 4 = .ok (.iload_n 1, 1) := by decide +kernel
theorem d_ST_first_5 : decode b_ST_first 5 = .ok (.laload, 1) := by decide +kernel
theorem d_ST_first_6 : decode b_ST_first 6 = .ok (.lreturn, 1) := by decide +kernel
theorem d_ST_isTouched_0 : decode b_ST_isTouched 0 = .ok (.aload_n 0, 1) := by decide +kernel
theorem d_ST_isTouched_1 : decode b_ST_isTouched 1 = .ok (.getfield 18, 3) := by decide +kernel
theorem d_ST_isTouched_4 : decode b_ST_isTouched 4 = .ok (.iload_n 1, 1) := by decide +kernel
theorem d_ST_isTouched_5 : decode b_ST_isTouched 5 = .ok (.baload, 1) := by decide +kernel
theorem d_ST_isTouched_6 : decode b_ST_isTouched 6 = .ok (.ireturn, 1) := by decide +kernel
theorem d_ST_touchedCount_0 : decode b_ST_touchedCount 0 = .ok (.aload_n 0, 1) := by decide +kernel
theorem d_ST_touchedCount_1 : decode b_ST_touchedCount 1 = .ok (.getfield 32, 3) := by decide +kernel
theorem d_ST_touchedCount_4 : decode b_ST_touchedCount 4 = .ok (.ireturn, 1) := by decide +kernel
theorem d_ST_refund_0 : decode b_ST_refund 0 = .ok (.aload_n 0, 1) := by decide +kernel
theorem d_ST_refund_1 : decode b_ST_refund 1 = .ok (.getfield 36, 3) := by decide +kernel
theorem d_ST_refund_4 : decode b_ST_refund 4 = .ok (.ireturn, 1) := by decide +kernel
theorem d_ST_changed_0 : decode b_ST_changed 0 = .ok (.aload_n 0, 1) := by decide +kernel
theorem d_ST_changed_1 : decode b_ST_changed 1 = .ok (.getfield 39, 3) := by decide +kernel
theorem d_ST_changed_4 : decode b_ST_changed 4 = .ok (.ireturn, 1) := by decide +kernel
theorem d_ST_begin_0 : decode b_ST_begin 0 = .ok (.aload_n 0, 1) := by decide +kernel
theorem d_ST_begin_1 : decode b_ST_begin 1 = .ok (.aload_n 0, 1) := by decide +kernel
theorem d_ST_begin_2 : decode b_ST_begin 2 = .ok (.getfield 39, 3) := by decide +kernel
theorem d_ST_begin_5 : decode b_ST_begin 5 = .ok (.iconst 0, 1) := by decide +kernel
theorem d_ST_begin_6 : decode b_ST_begin 6 = .ok (.iconst 0, 1) := by decide +kernel
theorem d_ST_begin_7 : decode b_ST_begin 7 = .ok (.invokevirtual 42, 3) := by decide +kernel
theorem d_ST_begin_10 : decode b_ST_begin 10 = .ok (.aload_n 0, 1) := by decide +kernel
theorem d_ST_begin_11 : decode b_ST_begin 11 = .ok (.iconst 0, 1) := by decide +kernel
theorem d_ST_begin_12 : decode b_ST_begin 12 = .ok (.putfield 39, 3) := by decide +kernel
theorem d_ST_begin_15 : decode b_ST_begin 15 = .ok (.iconst 0, 1) := by decide +kernel
theorem d_ST_begin_16 : decode b_ST_begin 16 = .ok (.istore_n 1, 1) := by decide +kernel
theorem d_ST_begin_17 : decode b_ST_begin 17 = .ok (.iload_n 1, 1) := by decide +kernel
theorem d_ST_begin_18 : decode b_ST_begin 18 = .ok (.sipush 256, 3) := by decide +kernel
theorem d_ST_begin_21 : decode b_ST_begin 21 = .ok (.if_icmp .ge 21, 3) := by decide +kernel
theorem d_ST_begin_24 : decode b_ST_begin 24 = .ok (.aload_n 0, 1) := by decide +kernel
theorem d_ST_begin_25 : decode b_ST_begin 25 = .ok (.getfield 15, 3) := by decide +kernel
theorem d_ST_begin_28 : decode b_ST_begin 28 = .ok (.iload_n 1, 1) := by decide +kernel
theorem d_ST_begin_29 : decode b_ST_begin 29 = .ok (.aload_n 0, 1) := by decide +kernel
theorem d_ST_begin_30 : decode b_ST_begin 30 = .ok (.getfield 9, 3) := by decide +kernel
theorem d_ST_begin_33 : decode b_ST_begin 33 = .ok (.iload_n 1, 1) := by decide +kernel
theorem d_ST_begin_34 : decode b_ST_begin 34 = .ok (.laload, 1) := by decide +kernel
theorem d_ST_begin_35 : decode b_ST_begin 35 = .ok (.lastore, 1) := by decide +kernel
theorem d_ST_begin_36 : decode b_ST_begin 36 = .ok (.iinc 1 1, 3) := by decide +kernel
theorem d_ST_begin_39 : decode b_ST_begin 39 = .ok (.goto (-22), 3) := by decide +kernel
theorem d_ST_begin_42 : decode b_ST_begin 42 = .ok (.return_, 1) := by decide +kernel
theorem d_ST_touch_0 : decode b_ST_touch 0 = .ok (.aload_n 0, 1) := by decide +kernel
theorem d_ST_touch_1 : decode b_ST_touch 1 = .ok (.getfield 18, 3) := by decide +kernel
theorem d_ST_touch_4 : decode b_ST_touch 4 = .ok (.iload_n 1, 1) := by decide +kernel
theorem d_ST_touch_5 : decode b_ST_touch 5 = .ok (.baload, 1) := by decide +kernel
theorem d_ST_touch_6 : decode b_ST_touch 6 = .ok (.ifCond .eq 5, 3) := by decide +kernel
theorem d_ST_touch_9 : decode b_ST_touch 9 = .ok (.iconst 0, 1) := by decide +kernel
theorem d_ST_touch_10 : decode b_ST_touch 10 = .ok (.ireturn, 1) := by decide +kernel
theorem d_ST_touch_11 : decode b_ST_touch 11 = .ok (.aload_n 0, 1) := by decide +kernel
theorem d_ST_touch_12 : decode b_ST_touch 12 = .ok (.getfield 18, 3) := by decide +kernel
theorem d_ST_touch_15 : decode b_ST_touch 15 = .ok (.iload_n 1, 1) := by decide +kernel
theorem d_ST_touch_16 : decode b_ST_touch 16 = .ok (.iconst 1, 1) := by decide +kernel
theorem d_ST_touch_17 : decode b_ST_touch 17 = .ok (.bastore, 1) := by decide +kernel
theorem d_ST_touch_18 : decode b_ST_touch 18 = .ok (.aload_n 0, 1) := by decide +kernel
theorem d_ST_touch_19 : decode b_ST_touch 19 = .ok (.getfield 22, 3) := by decide +kernel
theorem d_ST_touch_22 : decode b_ST_touch 22 = .ok (.aload_n 0, 1) := by decide +kernel
theorem d_ST_touch_23 : decode b_ST_touch 23 = .ok (.getfield 32, 3) := by decide +kernel
theorem d_ST_touch_26 : decode b_ST_touch 26 = .ok (.iload_n 1, 1) := by decide +kernel
theorem d_ST_touch_27 : decode b_ST_touch 27 = .ok (.iastore, 1) := by decide +kernel
theorem d_ST_touch_28 : decode b_ST_touch 28 = .ok (.aload_n 0, 1) := by decide +kernel
theorem d_ST_touch_29 : decode b_ST_touch 29 = .ok (.dup, 1) := by decide +kernel
theorem d_ST_touch_30 : decode b_ST_touch 30 = .ok (.getfield 32, 3) := by decide +kernel
theorem d_ST_touch_33 : decode b_ST_touch 33 = .ok (.iconst 1, 1) := by decide +kernel
theorem d_ST_touch_34 : decode b_ST_touch 34 = .ok (.iadd, 1) := by decide +kernel
theorem d_ST_touch_35 : decode b_ST_touch 35 = .ok (.putfield 32, 3) := by decide +kernel
theorem d_ST_touch_38 : decode b_ST_touch 38 = .ok (.iconst 1, 1) := by decide +kernel
theorem d_ST_touch_39 : decode b_ST_touch 39 = .ok (.ireturn, 1) := by decide +kernel
theorem d_ST_back_0 : decode b_ST_back 0 = .ok (.aload_n 0, 1) := by decide +kernel
theorem d_ST_back_1 : decode b_ST_back 1 = .ok (.getfield 39, 3) := by decide +kernel
theorem d_ST_back_4 : decode b_ST_back 4 = .ok (.iload_n 1, 1) := by decide +kernel
theorem d_ST_back_5 : decode b_ST_back 5 = .ok (.if_icmp .le 39, 3) := by decide +kernel
theorem d_ST_back_8 : decode b_ST_back 8 = .ok (.aload_n 0, 1) := by decide +kernel
theorem d_ST_back_9 : decode b_ST_back 9 = .ok (.dup, 1) := by decide +kernel
theorem d_ST_back_10 : decode b_ST_back 10 = .ok (.getfield 39, 3) := by decide +kernel
theorem d_ST_back_13 : decode b_ST_back 13 = .ok (.iconst 1, 1) := by decide +kernel
theorem d_ST_back_14 : decode b_ST_back 14 = .ok (.isub, 1) := by decide +kernel
theorem d_ST_back_15 : decode b_ST_back 15 = .ok (.putfield 39, 3) := by decide +kernel
theorem d_ST_back_18 : decode b_ST_back 18 = .ok (.aload_n 0, 1) := by decide +kernel
theorem d_ST_back_19 : decode b_ST_back 19 = .ok (.getfield 9, 3) := by decide +kernel
theorem d_ST_back_22 : decode b_ST_back 22 = .ok (.aload_n 0, 1) := by decide +kernel
theorem d_ST_back_23 : decode b_ST_back 23 = .ok (.getfield 26, 3) := by decide +kernel
theorem d_ST_back_26 : decode b_ST_back 26 = .ok (.aload_n 0, 1) := by decide +kernel
theorem d_ST_back_27 : decode b_ST_back 27 = .ok (.getfield 39, 3) := by decide +kernel
theorem d_ST_back_30 : decode b_ST_back 30 = .ok (.iaload, 1) := by decide +kernel
theorem d_ST_back_31 : decode b_ST_back 31 = .ok (.aload_n 0, 1) := by decide +kernel
theorem d_ST_back_32 : decode b_ST_back 32 = .ok (.getfield 29, 3) := by decide +kernel
theorem d_ST_back_35 : decode b_ST_back 35 = .ok (.aload_n 0, 1) := by decide +kernel
theorem d_ST_back_36 : decode b_ST_back 36 = .ok (.getfield 39, 3) := by decide +kernel
theorem d_ST_back_39 : decode b_ST_back 39 = .ok (.laload, 1) := by decide +kernel
theorem d_ST_back_40 : decode b_ST_back 40 = .ok (.lastore, 1) := by decide +kernel
theorem d_ST_back_41 : decode b_ST_back 41 = .ok (.goto (-41), 3) := by decide +kernel
theorem d_ST_back_44 : decode b_ST_back 44 = .ok (.aload_n 0, 1) := by decide +kernel
theorem d_ST_back_45 : decode b_ST_back 45 = .ok (.getfield 32, 3) := by decide +kernel
theorem d_ST_back_48 : decode b_ST_back 48 = .ok (.iload_n 2, 1) := by decide +kernel
theorem d_ST_back_49 : decode b_ST_back 49 = .ok (.if_icmp .le 31, 3) := by decide +kernel
theorem d_ST_back_52 : decode b_ST_back 52 = .ok (.aload_n 0, 1) := by decide +kernel
theorem d_ST_back_53 : decode b_ST_back 53 = .ok (.dup, 1) := by decide +kernel
theorem d_ST_back_54 : decode b_ST_back 54 = .ok (.getfield 32, 3) := by decide +kernel
theorem d_ST_back_57 : decode b_ST_back 57 = .ok (.iconst 1, 1) := by decide +kernel
theorem d_ST_back_58 : decode b_ST_back 58 = .ok (.isub, 1) := by decide +kernel
theorem d_ST_back_59 : decode b_ST_back 59 = .ok (.putfield 32, 3) := by decide +kernel
theorem d_ST_back_62 : decode b_ST_back 62 = .ok (.aload_n 0, 1) := by decide +kernel
theorem d_ST_back_63 : decode b_ST_back 63 = .ok (.getfield 18, 3) := by decide +kernel
theorem d_ST_back_66 : decode b_ST_back 66 = .ok (.aload_n 0, 1) := by decide +kernel
theorem d_ST_back_67 : decode b_ST_back 67 = .ok (.getfield 22, 3) := by decide +kernel
theorem d_ST_back_70 : decode b_ST_back 70 = .ok (.aload_n 0, 1) := by decide +kernel
theorem d_ST_back_71 : decode b_ST_back 71 = .ok (.getfield 32, 3) := by decide +kernel
theorem d_ST_back_74 : decode b_ST_back 74 = .ok (.iaload, 1) := by decide +kernel
theorem d_ST_back_75 : decode b_ST_back 75 = .ok (.iconst 0, 1) := by decide +kernel
theorem d_ST_back_76 : decode b_ST_back 76 = .ok (.bastore, 1) := by decide +kernel
theorem d_ST_back_77 : decode b_ST_back 77 = .ok (.goto (-33), 3) := by decide +kernel
theorem d_ST_back_80 : decode b_ST_back 80 = .ok (.aload_n 0, 1) := by decide +kernel
theorem d_ST_back_81 : decode b_ST_back 81 = .ok (.iload_n 3, 1) := by decide +kernel
theorem d_ST_back_82 : decode b_ST_back 82 = .ok (.putfield 36, 3) := by decide +kernel
theorem d_ST_back_85 : decode b_ST_back 85 = .ok (.return_, 1) := by decide +kernel
theorem d_ST_cost_0 : decode b_ST_cost 0 = .ok (.aload_n 0, 1) := by decide +kernel
theorem d_ST_cost_1 : decode b_ST_cost 1 = .ok (.getfield 18, 3) := by decide +kernel
theorem d_ST_cost_4 : decode b_ST_cost 4 = .ok (.iload_n 1, 1) := by decide +kernel
theorem d_ST_cost_5 : decode b_ST_cost 5 = .ok (.baload, 1) := by decide +kernel
theorem d_ST_cost_6 : decode b_ST_cost 6 = .ok (.ifCond .eq 7, 3) := by decide +kernel
theorem d_ST_cost_9 : decode b_ST_cost 9 = .ok (.iconst 0, 1) := by decide +kernel
theorem d_ST_cost_10 : decode b_ST_cost 10 = .ok (.goto 6, 3) := by decide +kernel
theorem d_ST_cost_13 : decode b_ST_cost 13 = .ok (.sipush 2100, 3) := by decide +kernel
theorem d_ST_cost_16 : decode b_ST_cost 16 = .ok (.istore 4, 2) := by decide +kernel
theorem d_ST_cost_18 : decode b_ST_cost 18 = .ok (.lload_n 2, 1) := by decide +kernel
theorem d_ST_cost_19 : decode b_ST_cost 19 = .ok (.aload_n 0, 1) := by decide +kernel
theorem d_ST_cost_20 : decode b_ST_cost 20 = .ok (.getfield 9, 3) := by decide +kernel
theorem d_ST_cost_23 : decode b_ST_cost 23 = .ok (.iload_n 1, 1) := by decide +kernel
theorem d_ST_cost_24 : decode b_ST_cost 24 = .ok (.laload, 1) := by decide +kernel
theorem d_ST_cost_25 : decode b_ST_cost 25 = .ok (.lcmp, 1) := by decide +kernel
theorem d_ST_cost_26 : decode b_ST_cost 26 = .ok (.ifCond .eq 19, 3) := by decide +kernel
theorem d_ST_cost_29 : decode b_ST_cost 29 = .ok (.aload_n 0, 1) := by decide +kernel
theorem d_ST_cost_30 : decode b_ST_cost 30 = .ok (.getfield 15, 3) := by decide +kernel
theorem d_ST_cost_33 : decode b_ST_cost 33 = .ok (.iload_n 1, 1) := by decide +kernel
theorem d_ST_cost_34 : decode b_ST_cost 34 = .ok (.laload, 1) := by decide +kernel
theorem d_ST_cost_35 : decode b_ST_cost 35 = .ok (.aload_n 0, 1) := by decide +kernel
theorem d_ST_cost_36 : decode b_ST_cost 36 = .ok (.getfield 9, 3) := by decide +kernel
theorem d_ST_cost_39 : decode b_ST_cost 39 = .ok (.iload_n 1, 1) := by decide +kernel
theorem d_ST_cost_40 : decode b_ST_cost 40 = .ok (.laload, 1) := by decide +kernel
theorem d_ST_cost_41 : decode b_ST_cost 41 = .ok (.lcmp, 1) := by decide +kernel
theorem d_ST_cost_42 : decode b_ST_cost 42 = .ok (.ifCond .eq 9, 3) := by decide +kernel
theorem d_ST_cost_45 : decode b_ST_cost 45 = .ok (.iload 4, 2) := by decide +kernel
theorem d_ST_cost_47 : decode b_ST_cost 47 = .ok (.bipush 100, 2) := by decide +kernel
theorem d_ST_cost_49 : decode b_ST_cost 49 = .ok (.iadd, 1) := by decide +kernel
theorem d_ST_cost_50 : decode b_ST_cost 50 = .ok (.ireturn, 1) := by decide +kernel
theorem d_ST_cost_51 : decode b_ST_cost 51 = .ok (.iload 4, 2) := by decide +kernel
theorem d_ST_cost_53 : decode b_ST_cost 53 = .ok (.aload_n 0, 1) := by decide +kernel
theorem d_ST_cost_54 : decode b_ST_cost 54 = .ok (.getfield 15, 3) := by decide +kernel
theorem d_ST_cost_57 : decode b_ST_cost 57 = .ok (.iload_n 1, 1) := by decide +kernel
theorem d_ST_cost_58 : decode b_ST_cost 58 = .ok (.laload, 1) := by decide +kernel
theorem d_ST_cost_59 : decode b_ST_cost 59 = .ok (.lconst 0, 1) := by decide +kernel
theorem d_ST_cost_60 : decode b_ST_cost 60 = .ok (.lcmp, 1) := by decide +kernel
theorem d_ST_cost_61 : decode b_ST_cost 61 = .ok (.ifCond .ne 9, 3) := by decide +kernel
theorem d_ST_cost_64 : decode b_ST_cost 64 = .ok (.sipush 20000, 3) := by decide +kernel
theorem d_ST_cost_67 : decode b_ST_cost 67 = .ok (.goto 6, 3) := by decide +kernel
theorem d_ST_cost_70 : decode b_ST_cost 70 = .ok (.sipush 2900, 3) := by decide +kernel
theorem d_ST_cost_73 : decode b_ST_cost 73 = .ok (.iadd, 1) := by decide +kernel
theorem d_ST_cost_74 : decode b_ST_cost 74 = .ok (.ireturn, 1) := by decide +kernel
theorem d_ST_store_0 : decode b_ST_store 0 = .ok (.lload_n 2, 1) := by decide +kernel
theorem d_ST_store_1 : decode b_ST_store 1 = .ok (.aload_n 0, 1) := by decide +kernel
theorem d_ST_store_2 : decode b_ST_store 2 = .ok (.getfield 9, 3) := by decide +kernel
theorem d_ST_store_5 : decode b_ST_store 5 = .ok (.iload_n 1, 1) := by decide +kernel
theorem d_ST_store_6 : decode b_ST_store 6 = .ok (.laload, 1) := by decide +kernel
theorem d_ST_store_7 : decode b_ST_store 7 = .ok (.lcmp, 1) := by decide +kernel
theorem d_ST_store_8 : decode b_ST_store 8 = .ok (.ifCond .ne 4, 3) := by decide +kernel
theorem d_ST_store_11 : decode b_ST_store 11 = .ok (.return_, 1) := by decide +kernel
theorem d_ST_store_12 : decode b_ST_store 12 = .ok (.aload_n 0, 1) := by decide +kernel
theorem d_ST_store_13 : decode b_ST_store 13 = .ok (.dup, 1) := by decide +kernel
theorem d_ST_store_14 : decode b_ST_store 14 = .ok (.getfield 36, 3) := by decide +kernel
theorem d_ST_store_17 : decode b_ST_store 17 = .ok (.aload_n 0, 1) := by decide +kernel
theorem d_ST_store_18 : decode b_ST_store 18 = .ok (.getfield 15, 3) := by decide +kernel
theorem d_ST_store_21 : decode b_ST_store 21 = .ok (.iload_n 1, 1) := by decide +kernel
theorem d_ST_store_22 : decode b_ST_store 22 = .ok (.laload, 1) := by decide +kernel
theorem d_ST_store_23 : decode b_ST_store 23 = .ok (.aload_n 0, 1) := by decide +kernel
theorem d_ST_store_24 : decode b_ST_store 24 = .ok (.getfield 9, 3) := by decide +kernel
theorem d_ST_store_27 : decode b_ST_store 27 = .ok (.iload_n 1, 1) := by decide +kernel
theorem d_ST_store_28 : decode b_ST_store 28 = .ok (.laload, 1) := by decide +kernel
theorem d_ST_store_29 : decode b_ST_store 29 = .ok (.lload_n 2, 1) := by decide +kernel
theorem d_ST_store_30 : decode b_ST_store 30 = .ok (.invokestatic 46, 3) := by decide +kernel
theorem d_ST_store_33 : decode b_ST_store 33 = .ok (.iadd, 1) := by decide +kernel
theorem d_ST_store_34 : decode b_ST_store 34 = .ok (.putfield 36, 3) := by decide +kernel
theorem d_ST_store_37 : decode b_ST_store 37 = .ok (.aload_n 0, 1) := by decide +kernel
theorem d_ST_store_38 : decode b_ST_store 38 = .ok (.getfield 39, 3) := by decide +kernel
theorem d_ST_store_41 : decode b_ST_store 41 = .ok (.aload_n 0, 1) := by decide +kernel
theorem d_ST_store_42 : decode b_ST_store 42 = .ok (.getfield 26, 3) := by decide +kernel
theorem d_ST_store_45 : decode b_ST_store 45 = .ok (.arraylength, 1) := by decide +kernel
theorem d_ST_store_46 : decode b_ST_store 46 = .ok (.if_icmp .ne 25, 3) := by decide +kernel
theorem d_ST_store_49 : decode b_ST_store 49 = .ok (.aload_n 0, 1) := by decide +kernel
theorem d_ST_store_50 : decode b_ST_store 50 = .ok (.aload_n 0, 1) := by decide +kernel
theorem d_ST_store_51 : decode b_ST_store 51 = .ok (.getfield 26, 3) := by decide +kernel
theorem d_ST_store_54 : decode b_ST_store 54 = .ok (.invokestatic 50, 3) := by decide +kernel
theorem d_ST_store_57 : decode b_ST_store 57 = .ok (.putfield 26, 3) := by decide +kernel
theorem d_ST_store_60 : decode b_ST_store 60 = .ok (.aload_n 0, 1) := by decide +kernel
theorem d_ST_store_61 : decode b_ST_store 61 = .ok (.aload_n 0, 1) := by decide +kernel
theorem d_ST_store_62 : decode b_ST_store 62 = .ok (.getfield 29, 3) := by decide +kernel
theorem d_ST_store_65 : decode b_ST_store 65 = .ok (.invokestatic 54, 3) := by decide +kernel
theorem d_ST_store_68 : decode b_ST_store 68 = .ok (.putfield 29, 3) := by decide +kernel
theorem d_ST_store_71 : decode b_ST_store 71 = .ok (.aload_n 0, 1) := by decide +kernel
theorem d_ST_store_72 : decode b_ST_store 72 = .ok (.getfield 26, 3) := by decide +kernel
theorem d_ST_store_75 : decode b_ST_store 75 = .ok (.aload_n 0, 1) := by decide +kernel
theorem d_ST_store_76 : decode b_ST_store 76 = .ok (.getfield 39, 3) := by decide +kernel
theorem d_ST_store_79 : decode b_ST_store 79 = .ok (.iload_n 1, 1) := by decide +kernel
theorem d_ST_store_80 : decode b_ST_store 80 = .ok (.iastore, 1) := by decide +kernel
theorem d_ST_store_81 : decode b_ST_store 81 = .ok (.aload_n 0, 1) := by decide +kernel
theorem d_ST_store_82 : decode b_ST_store 82 = .ok (.getfield 29, 3) := by decide +kernel
theorem d_ST_store_85 : decode b_ST_store 85 = .ok (.aload_n 0, 1) := by decide +kernel
theorem d_ST_store_86 : decode b_ST_store 86 = .ok (.getfield 39, 3) := by decide +kernel
theorem d_ST_store_89 : decode b_ST_store 89 = .ok (.aload_n 0, 1) := by decide +kernel
theorem d_ST_store_90 : decode b_ST_store 90 = .ok (.getfield 9, 3) := by decide +kernel
theorem d_ST_store_93 : decode b_ST_store 93 = .ok (.iload_n 1, 1) := by decide +kernel
theorem d_ST_store_94 : decode b_ST_store 94 = .ok (.laload, 1) := by decide +kernel
theorem d_ST_store_95 : decode b_ST_store 95 = .ok (.lastore, 1) := by decide +kernel
theorem d_ST_store_96 : decode b_ST_store 96 = .ok (.aload_n 0, 1) := by decide +kernel
theorem d_ST_store_97 : decode b_ST_store 97 = .ok (.dup, 1) := by decide +kernel
theorem d_ST_store_98 : decode b_ST_store 98 = .ok (.getfield 39, 3) := by decide +kernel
theorem d_ST_store_101 : decode b_ST_store 101 = .ok (.iconst 1, 1) := by decide +kernel
theorem d_ST_store_102 : decode b_ST_store 102 = .ok (.iadd, 1) := by decide +kernel
theorem d_ST_store_103 : decode b_ST_store 103 = .ok (.putfield 39, 3) := by decide +kernel
theorem d_ST_store_106 : decode b_ST_store 106 = .ok (.aload_n 0, 1) := by decide +kernel
theorem d_ST_store_107 : decode b_ST_store 107 = .ok (.getfield 9, 3) := by decide +kernel
theorem d_ST_store_110 : decode b_ST_store 110 = .ok (.iload_n 1, 1) := by decide +kernel
theorem d_ST_store_111 : decode b_ST_store 111 = .ok (.lload_n 2, 1) := by decide +kernel
theorem d_ST_store_112 : decode b_ST_store 112 = .ok (.lastore, 1) := by decide +kernel
theorem d_ST_store_113 : decode b_ST_store 113 = .ok (.return_, 1) := by decide +kernel
theorem d_ST_given_0 : decode b_ST_given 0 = .ok (.lload_n 0, 1) := by decide +kernel
theorem d_ST_given_1 : decode b_ST_given 1 = .ok (.lload_n 2, 1) := by decide +kernel
theorem d_ST_given_2 : decode b_ST_given 2 = .ok (.lcmp, 1) := by decide +kernel
theorem d_ST_given_3 : decode b_ST_given 3 = .ok (.ifCond .ne 24, 3) := by decide +kernel
theorem d_ST_given_6 : decode b_ST_given 6 = .ok (.lload_n 0, 1) := by decide +kernel
theorem d_ST_given_7 : decode b_ST_given 7 = .ok (.lconst 0, 1) := by decide +kernel
theorem d_ST_given_8 : decode b_ST_given 8 = .ok (.lcmp, 1) := by decide +kernel
theorem d_ST_given_9 : decode b_ST_given 9 = .ok (.ifCond .eq 16, 3) := by decide +kernel
theorem d_ST_given_12 : decode b_ST_given 12 = .ok (.lload 4, 2) := by decide +kernel
theorem d_ST_given_14 : decode b_ST_given 14 = .ok (.lconst 0, 1) := by decide +kernel
theorem d_ST_given_15 : decode b_ST_given 15 = .ok (.lcmp, 1) := by decide +kernel
theorem d_ST_given_16 : decode b_ST_given 16 = .ok (.ifCond .ne 9, 3) := by decide +kernel
theorem d_ST_given_19 : decode b_ST_given 19 = .ok (.sipush 15000, 3) := by decide +kernel
theorem d_ST_given_22 : decode b_ST_given 22 = .ok (.goto 4, 3) := by decide +kernel
theorem d_ST_given_25 : decode b_ST_given 25 = .ok (.iconst 0, 1) := by decide +kernel
theorem d_ST_given_26 : decode b_ST_given 26 = .ok (.ireturn, 1) := by decide +kernel
theorem d_ST_given_27 : decode b_ST_given 27 = .ok (.iconst 0, 1) := by decide +kernel
theorem d_ST_given_28 : decode b_ST_given 28 = .ok (.istore 6, 2) := by decide +kernel
theorem d_ST_given_30 : decode b_ST_given 30 = .ok (.lload_n 0, 1) := by decide +kernel
theorem d_ST_given_31 : decode b_ST_given 31 = .ok (.lconst 0, 1) := by decide +kernel
theorem d_ST_given_32 : decode b_ST_given 32 = .ok (.lcmp, 1) := by decide +kernel
theorem d_ST_given_33 : decode b_ST_given 33 = .ok (.ifCond .eq 15, 3) := by decide +kernel
theorem d_ST_given_36 : decode b_ST_given 36 = .ok (.lload_n 2, 1) := by decide +kernel
theorem d_ST_given_37 : decode b_ST_given 37 = .ok (.lconst 0, 1) := by decide +kernel
theorem d_ST_given_38 : decode b_ST_given 38 = .ok (.lcmp, 1) := by decide +kernel
theorem d_ST_given_39 : decode b_ST_given 39 = .ok (.ifCond .ne 9, 3) := by decide +kernel
theorem d_ST_given_42 : decode b_ST_given 42 = .ok (.iinc 6 (-15000), 6) := by decide +kernel
theorem d_ST_given_48 : decode b_ST_given 48 = .ok (.lload_n 0, 1) := by decide +kernel
theorem d_ST_given_49 : decode b_ST_given 49 = .ok (.lconst 0, 1) := by decide +kernel
theorem d_ST_given_50 : decode b_ST_given 50 = .ok (.lcmp, 1) := by decide +kernel
theorem d_ST_given_51 : decode b_ST_given 51 = .ok (.ifCond .eq 16, 3) := by decide +kernel
theorem d_ST_given_54 : decode b_ST_given 54 = .ok (.lload 4, 2) := by decide +kernel
theorem d_ST_given_56 : decode b_ST_given 56 = .ok (.lconst 0, 1) := by decide +kernel
theorem d_ST_given_57 : decode b_ST_given 57 = .ok (.lcmp, 1) := by decide +kernel
theorem d_ST_given_58 : decode b_ST_given 58 = .ok (.ifCond .ne 9, 3) := by decide +kernel
theorem d_ST_given_61 : decode b_ST_given 61 = .ok (.iinc 6 15000, 6) := by decide +kernel
theorem d_ST_given_67 : decode b_ST_given 67 = .ok (.lload_n 0, 1) := by decide +kernel
theorem d_ST_given_68 : decode b_ST_given 68 = .ok (.lload 4, 2) := by decide +kernel
theorem d_ST_given_70 : decode b_ST_given 70 = .ok (.lcmp, 1) := by decide +kernel
theorem d_ST_given_71 : decode b_ST_given 71 = .ok (.ifCond .ne 23, 3) := by decide +kernel
theorem d_ST_given_74 : decode b_ST_given 74 = .ok (.iload 6, 2) := by decide +kernel
theorem d_ST_given_76 : decode b_ST_given 76 = .ok (.lload_n 0, 1) := by decide +kernel
theorem d_ST_given_77 : decode b_ST_given 77 = .ok (.lconst 0, 1) := by decide +kernel
theorem d_ST_given_78 : decode b_ST_given 78 = .ok (.lcmp, 1) := by decide +kernel
theorem d_ST_given_79 : decode b_ST_given 79 = .ok (.ifCond .ne 9, 3) := by decide +kernel
theorem d_ST_given_82 : decode b_ST_given 82 = .ok (.sipush 19900, 3) := by decide +kernel
theorem d_ST_given_85 : decode b_ST_given 85 = .ok (.goto 6, 3) := by decide +kernel
theorem d_ST_given_88 : decode b_ST_given 88 = .ok (.sipush 2800, 3) := by decide +kernel
theorem d_ST_given_91 : decode b_ST_given 91 = .ok (.iadd, 1) := by decide +kernel
theorem d_ST_given_92 : decode b_ST_given 92 = .ok (.istore 6, 2) := by decide +kernel
theorem d_ST_given_94 : decode b_ST_given 94 = .ok (.iload 6, 2) := by decide +kernel
theorem d_ST_given_96 : decode b_ST_given 96 = .ok (.ireturn, 1) := by decide +kernel
theorem d_ST_some_0 : decode b_ST_some 0 = .ok (.iconst 0, 1) := by decide +kernel
theorem d_ST_some_1 : decode b_ST_some 1 = .ok (.istore_n 1, 1) := by decide +kernel
theorem d_ST_some_2 : decode b_ST_some 2 = .ok (.iconst 0, 1) := by decide +kernel
theorem d_ST_some_3 : decode b_ST_some 3 = .ok (.istore_n 2, 1) := by decide +kernel
theorem d_ST_some_4 : decode b_ST_some 4 = .ok (.iload_n 2, 1) := by decide +kernel
theorem d_ST_some_5 : decode b_ST_some 5 = .ok (.sipush 256, 3) := by decide +kernel
theorem d_ST_some_8 : decode b_ST_some 8 = .ok (.if_icmp .ge 23, 3) := by decide +kernel
theorem d_ST_some_11 : decode b_ST_some 11 = .ok (.aload_n 0, 1) := by decide +kernel
theorem d_ST_some_12 : decode b_ST_some 12 = .ok (.getfield 9, 3) := by decide +kernel
theorem d_ST_some_15 : decode b_ST_some 15 = .ok (.iload_n 2, 1) := by decide +kernel
theorem d_ST_some_16 : decode b_ST_some 16 = .ok (.laload, 1) := by decide +kernel
theorem d_ST_some_17 : decode b_ST_some 17 = .ok (.lconst 0, 1) := by decide +kernel
theorem d_ST_some_18 : decode b_ST_some 18 = .ok (.lcmp, 1) := by decide +kernel
theorem d_ST_some_19 : decode b_ST_some 19 = .ok (.ifCond .eq 6, 3) := by decide +kernel
theorem d_ST_some_22 : decode b_ST_some 22 = .ok (.iinc 1 1, 3) := by decide +kernel
theorem d_ST_some_25 : decode b_ST_some 25 = .ok (.iinc 2 1, 3) := by decide +kernel
theorem d_ST_some_28 : decode b_ST_some 28 = .ok (.goto (-24), 3) := by decide +kernel
theorem d_ST_some_31 : decode b_ST_some 31 = .ok (.iload_n 1, 1) := by decide +kernel
theorem d_ST_some_32 : decode b_ST_some 32 = .ok (.ireturn, 1) := by decide +kernel
end
section
theorem d_MD_init_0 : decode b_MD_init 0 = .ok (.aload_n 0, 1) := by decide +kernel
theorem d_MD_init_1 : decode b_MD_init 1 = .ok (.invokespecial 1, 3) := by decide +kernel
theorem d_MD_init_4 : decode b_MD_init 4 = .ok (.aload_n 0, 1) := by decide +kernel
theorem d_MD_init_5 : decode b_MD_init 5 = .ok (.bipush 31, 2) := by decide +kernel
theorem d_MD_init_7 : decode b_MD_init 7 = .ok (.sipush 256, 3) := by decide +kernel
theorem d_MD_init_10 : decode b_MD_init 10 = .ok (.multianewarray 7 2, 4) := by decide +kernel
theorem d_MD_init_14 : decode b_MD_init 14 = .ok (.putfield 9, 3) := by decide +kernel
theorem d_MD_init_17 : decode b_MD_init 17 = .ok (.aload_n 0, 1) := by decide +kernel
theorem d_MD_init_18 : decode b_MD_init 18 = .ok (.bipush 31, 2) := by decide +kernel
theorem d_MD_init_20 : decode b_MD_init 20 = .ok (.sipush 256, 3) := by decide +kernel
theorem d_MD_init_23 : decode b_MD_init 23 = .ok (.multianewarray 14 2, 4) := by decide +kernel
theorem d_MD_init_27 : decode b_MD_init 27 = .ok (.putfield 16, 3) := by decide +kernel
theorem d_MD_init_30 : decode b_MD_init 30 = .ok (.aload_n 0, 1) := by decide +kernel
theorem d_MD_init_31 : decode b_MD_init 31 = .ok (.bipush 31, 2) := by decide +kernel
theorem d_MD_init_33 : decode b_MD_init 33 = .ok (.newarray .int, 2) := by decide +kernel
theorem d_MD_init_35 : decode b_MD_init 35 = .ok (.putfield 19, 3) := by decide +kernel
theorem d_MD_init_38 : decode b_MD_init 38 = .ok (.aload_n 0, 1) := by decide +kernel
theorem d_MD_init_39 : decode b_MD_init 39 = .ok (.sipush 256, 3) := by decide +kernel
theorem d_MD_init_42 : decode b_MD_init 42 = .ok (.newarray .long, 2) := by decide +kernel
theorem d_MD_init_44 : decode b_MD_init 44 = .ok (.putfield 23, 3) := by decide +kernel
theorem d_MD_init_47 : decode b_MD_init 47 = .ok (.aload_n 0, 1) := by decide +kernel
theorem d_MD_init_48 : decode b_MD_init 48 = .ok (.sipush 256, 3) := by decide +kernel
theorem d_MD_init_51 : decode b_MD_init 51 = .ok (.newarray .long, 2) := by decide +kernel
theorem d_MD_init_53 : decode b_MD_init 53 = .ok (.putfield 27, 3) := by decide +kernel
theorem d_MD_init_56 : decode b_MD_init 56 = .ok (.aload_n 0, 1) := by decide +kernel
theorem d_MD_init_57 : decode b_MD_init 57 = .ok (.sipush 256, 3) := by decide +kernel
theorem d_MD_init_60 : decode b_MD_init 60 = .ok (.newarray .boolean, 2) := by decide +kernel
theorem d_MD_init_62 : decode b_MD_init 62 = .ok (.putfield 30, 3) := by decide +kernel
theorem d_MD_init_65 : decode b_MD_init 65 = .ok (.return_, 1) := by decide +kernel
theorem d_MD_thrown_0 : decode b_MD_thrown 0 = .ok (.aload_n 0, 1) := by decide +kernel
theorem d_MD_thrown_1 : decode b_MD_thrown 1 = .ok (.getfield 34, 3) := by decide +kernel
theorem d_MD_thrown_4 : decode b_MD_thrown 4 = .ok (.ireturn, 1) := by decide +kernel
theorem d_MD_fail_0 : decode b_MD_fail 0 = .ok (.aload_n 0, 1) := by decide +kernel
theorem d_MD_fail_1 : decode b_MD_fail 1 = .ok (.iload_n 1, 1) := by decide +kernel
theorem d_MD_fail_2 : decode b_MD_fail 2 = .ok (.putfield 34, 3) := by decide +kernel
theorem d_MD_fail_5 : decode b_MD_fail 5 = .ok (.iconst 0, 1) := by decide +kernel
theorem d_MD_fail_6 : decode b_MD_fail 6 = .ok (.ireturn, 1) := by decide +kernel
theorem d_MD_filled_0 : decode b_MD_filled 0 = .ok (.iconst 0, 1) := by decide +kernel
theorem d_MD_filled_1 : decode b_MD_filled 1 = .ok (.istore_n 1, 1) := by decide +kernel
theorem d_MD_filled_2 : decode b_MD_filled 2 = .ok (.iconst 0, 1) := by decide +kernel
theorem d_MD_filled_3 : decode b_MD_filled 3 = .ok (.istore_n 2, 1) := by decide +kernel
theorem d_MD_filled_4 : decode b_MD_filled 4 = .ok (.iload_n 2, 1) := by decide +kernel
theorem d_MD_filled_5 : decode b_MD_filled 5 = .ok (.sipush 256, 3) := by decide +kernel
theorem d_MD_filled_8 : decode b_MD_filled 8 = .ok (.if_icmp .ge 28, 3) := by decide +kernel
theorem d_MD_filled_11 : decode b_MD_filled 11 = .ok (.iload_n 1, 1) := by decide +kernel
theorem d_MD_filled_12 : decode b_MD_filled 12 = .ok (.aload_n 0, 1) := by decide +kernel
theorem d_MD_filled_13 : decode b_MD_filled 13 = .ok (.getfield 23, 3) := by decide +kernel
theorem d_MD_filled_16 : decode b_MD_filled 16 = .ok (.iload_n 2, 1) := by decide +kernel
theorem d_MD_filled_17 : decode b_MD_filled 17 = .ok (.laload, 1) := by decide +kernel
theorem d_MD_filled_18 : decode b_MD_filled 18 = .ok (.lconst 0, 1) := by decide +kernel
theorem d_MD_filled_19 : decode b_MD_filled 19 = .ok (.lcmp, 1) := by decide +kernel
theorem d_MD_filled_20 : decode b_MD_filled 20 = .ok (.ifCond .eq 7, 3) := by decide +kernel
theorem d_MD_filled_23 : decode b_MD_filled 23 = .ok (.iconst 1, 1) := by decide +kernel
theorem d_MD_filled_24 : decode b_MD_filled 24 = .ok (.goto 4, 3) := by decide +kernel
theorem d_MD_filled_27 : decode b_MD_filled 27 = .ok (.iconst 0, 1) := by decide +kernel
theorem d_MD_filled_28 : decode b_MD_filled 28 = .ok (.iadd, 1) := by decide +kernel
theorem d_MD_filled_29 : decode b_MD_filled 29 = .ok (.istore_n 1, 1) := by decide +kernel
theorem d_MD_filled_30 : decode b_MD_filled 30 = .ok (.iinc 2 1, 3) := by decide +kernel
theorem d_MD_filled_33 : decode b_MD_filled 33 = .ok (.goto (-29), 3) := by decide +kernel
theorem d_MD_filled_36 : decode b_MD_filled 36 = .ok (.iload_n 1, 1) := by decide +kernel
theorem d_MD_filled_37 : decode b_MD_filled 37 = .ok (.ireturn, 1) := by decide +kernel
theorem d_MD_begin_0 : decode b_MD_begin 0 = .ok (.aload_n 0, 1) := by decide +kernel
theorem d_MD_begin_1 : decode b_MD_begin 1 = .ok (.iconst 0, 1) := by decide +kernel
theorem d_MD_begin_2 : decode b_MD_begin 2 = .ok (.putfield 34, 3) := by decide +kernel
theorem d_MD_begin_5 : decode b_MD_begin 5 = .ok (.iconst 0, 1) := by decide +kernel
theorem d_MD_begin_6 : decode b_MD_begin 6 = .ok (.istore_n 1, 1) := by decide +kernel
theorem d_MD_begin_7 : decode b_MD_begin 7 = .ok (.iload_n 1, 1) := by decide +kernel
theorem d_MD_begin_8 : decode b_MD_begin 8 = .ok (.sipush 256, 3) := by decide +kernel
theorem d_MD_begin_11 : decode b_MD_begin 11 = .ok (.if_icmp .ge 28, 3) := by decide +kernel
theorem d_MD_begin_14 : decode b_MD_begin 14 = .ok (.aload_n 0, 1) := by decide +kernel
theorem d_MD_begin_15 : decode b_MD_begin 15 = .ok (.getfield 27, 3) := by decide +kernel
theorem d_MD_begin_18 : decode b_MD_begin 18 = .ok (.iload_n 1, 1) := by decide +kernel
theorem d_MD_begin_19 : decode b_MD_begin 19 = .ok (.aload_n 0, 1) := by decide +kernel
theorem d_MD_begin_20 : decode b_MD_begin 20 = .ok (.getfield 23, 3) := by decide +kernel
theorem d_MD_begin_23 : decode b_MD_begin 23 = .ok (.iload_n 1, 1) := by decide +kernel
theorem d_MD_begin_24 : decode b_MD_begin 24 = .ok (.laload, 1) := by decide +kernel
theorem d_MD_begin_25 : decode b_MD_begin 25 = .ok (.lastore, 1) := by decide +kernel
theorem d_MD_begin_26 : decode b_MD_begin 26 = .ok (.aload_n 0, 1) := by decide +kernel
theorem d_MD_begin_27 : decode b_MD_begin 27 = .ok (.getfield 30, 3) := by decide +kernel
theorem d_MD_begin_30 : decode b_MD_begin 30 = .ok (.iload_n 1, 1) := by decide +kernel
theorem d_MD_begin_31 : decode b_MD_begin 31 = .ok (.iconst 0, 1) := by decide +kernel
theorem d_MD_begin_32 : decode b_MD_begin 32 = .ok (.bastore, 1) := by decide +kernel
theorem d_MD_begin_33 : decode b_MD_begin 33 = .ok (.iinc 1 1, 3) := by decide +kernel
theorem d_MD_begin_36 : decode b_MD_begin 36 = .ok (.goto (-29), 3) := by decide +kernel
theorem d_MD_begin_39 : decode b_MD_begin 39 = .ok (.aload_n 0, 1) := by decide +kernel
theorem d_MD_begin_40 : decode b_MD_begin 40 = .ok (.iconst 0, 1) := by decide +kernel
theorem d_MD_begin_41 : decode b_MD_begin 41 = .ok (.putfield 38, 3) := by decide +kernel
theorem d_MD_begin_44 : decode b_MD_begin 44 = .ok (.aload_n 0, 1) := by decide +kernel
theorem d_MD_begin_45 : decode b_MD_begin 45 = .ok (.iconst 0, 1) := by decide +kernel
theorem d_MD_begin_46 : decode b_MD_begin 46 = .ok (.putfield 41, 3) := by decide +kernel
theorem d_MD_begin_49 : decode b_MD_begin 49 = .ok (.aload_n 0, 1) := by decide +kernel
theorem d_MD_begin_50 : decode b_MD_begin 50 = .ok (.invokevirtual 44, 3) := by decide +kernel
theorem d_MD_begin_53 : decode b_MD_begin 53 = .ok (.ireturn, 1) := by decide +kernel
theorem d_MD_open_0 : decode b_MD_open 0 = .ok (.aload_n 0, 1) := by decide +kernel
theorem d_MD_open_1 : decode b_MD_open 1 = .ok (.iconst 0, 1) := by decide +kernel
theorem d_MD_open_2 : decode b_MD_open 2 = .ok (.putfield 34, 3) := by decide +kernel
theorem d_MD_open_5 : decode b_MD_open 5 = .ok (.aload_n 0, 1) := by decide +kernel
theorem d_MD_open_6 : decode b_MD_open 6 = .ok (.getfield 41, 3) := by decide +kernel
theorem d_MD_open_9 : decode b_MD_open 9 = .ok (.bipush 30, 2) := by decide +kernel
theorem d_MD_open_11 : decode b_MD_open 11 = .ok (.if_icmp .ne 9, 3) := by decide +kernel
theorem d_MD_open_14 : decode b_MD_open 14 = .ok (.aload_n 0, 1) := by decide +kernel
theorem d_MD_open_15 : decode b_MD_open 15 = .ok (.iconst 1, 1) := by decide +kernel
theorem d_MD_open_16 : decode b_MD_open 16 = .ok (.invokevirtual 48, 3) := by decide +kernel
theorem d_MD_open_19 : decode b_MD_open 19 = .ok (.ireturn, 1) := by decide +kernel
theorem d_MD_open_20 : decode b_MD_open 20 = .ok (.aload_n 0, 1) := by decide +kernel
theorem d_MD_open_21 : decode b_MD_open 21 = .ok (.dup, 1) := by decide +kernel
theorem d_MD_open_22 : decode b_MD_open 22 = .ok (.getfield 41, 3) := by decide +kernel
theorem d_MD_open_25 : decode b_MD_open 25 = .ok (.iconst 1, 1) := by decide +kernel
theorem d_MD_open_26 : decode b_MD_open 26 = .ok (.iadd, 1) := by decide +kernel
theorem d_MD_open_27 : decode b_MD_open 27 = .ok (.putfield 41, 3) := by decide +kernel
theorem d_MD_open_30 : decode b_MD_open 30 = .ok (.iconst 0, 1) := by decide +kernel
theorem d_MD_open_31 : decode b_MD_open 31 = .ok (.istore_n 1, 1) := by decide +kernel
theorem d_MD_open_32 : decode b_MD_open 32 = .ok (.iload_n 1, 1) := by decide +kernel
theorem d_MD_open_33 : decode b_MD_open 33 = .ok (.sipush 256, 3) := by decide +kernel
theorem d_MD_open_36 : decode b_MD_open 36 = .ok (.if_icmp .ge 43, 3) := by decide +kernel
theorem d_MD_open_39 : decode b_MD_open 39 = .ok (.aload_n 0, 1) := by decide +kernel
theorem d_MD_open_40 : decode b_MD_open 40 = .ok (.getfield 9, 3) := by decide +kernel
theorem d_MD_open_43 : decode b_MD_open 43 = .ok (.aload_n 0, 1) := by decide +kernel
theorem d_MD_open_44 : decode b_MD_open 44 = .ok (.getfield 41, 3) := by decide +kernel
theorem d_MD_open_47 : decode b_MD_open 47 = .ok (.aaload, 1) := by decide +kernel
theorem d_MD_open_48 : decode b_MD_open 48 = .ok (.iload_n 1, 1) := by decide +kernel
theorem d_MD_open_49 : decode b_MD_open 49 = .ok (.aload_n 0, 1) := by decide +kernel
theorem d_MD_open_50 : decode b_MD_open 50 = .ok (.getfield 23, 3) := by decide +kernel
theorem d_MD_open_53 : decode b_MD_open 53 = .ok (.iload_n 1, 1) := by decide +kernel
theorem d_MD_open_54 : decode b_MD_open 54 = .ok (.laload, 1) := by decide +kernel
theorem d_MD_open_55 : decode b_MD_open 55 = .ok (.lastore, 1) := by decide +kernel
theorem d_MD_open_56 : decode b_MD_open 56 = .ok (.aload_n 0, 1) := by decide +kernel
theorem d_MD_open_57 : decode b_MD_open 57 = .ok (.getfield 16, 3) := by decide +kernel
theorem d_MD_open_60 : decode b_MD_open 60 = .ok (.aload_n 0, 1) := by decide +kernel
theorem d_MD_open_61 : decode b_MD_open 61 = .ok (.getfield 41, 3) := by decide +kernel
theorem d_MD_open_64 : decode b_MD_open 64 = .ok (.aaload, 1) := by decide +kernel
theorem d_MD_open_65 : decode b_MD_open 65 = .ok (.iload_n 1, 1) := by decide +kernel
theorem d_MD_open_66 : decode b_MD_open 66 = .ok (.aload_n 0, 1) := by decide +kernel
theorem d_MD_open_67 : decode b_MD_open 67 = .ok (.getfield 30, 3) := by decide +kernel
theorem d_MD_open_70 : decode b_MD_open 70 = .ok (.iload_n 1, 1) := by decide +kernel
theorem d_MD_open_71 : decode b_MD_open 71 = .ok (.baload, 1) := by decide +kernel
theorem d_MD_open_72 : decode b_MD_open 72 = .ok (.bastore, 1) := by decide +kernel
theorem d_MD_open_73 : decode b_MD_open 73 = .ok (.iinc 1 1, 3) := by decide +kernel
theorem d_MD_open_76 : decode b_MD_open 76 = .ok (.goto (-44), 3) := by decide +kernel
theorem d_MD_open_79 : decode b_MD_open 79 = .ok (.aload_n 0, 1) := by decide +kernel
theorem d_MD_open_80 : decode b_MD_open 80 = .ok (.getfield 19, 3) := by decide +kernel
theorem d_MD_open_83 : decode b_MD_open 83 = .ok (.aload_n 0, 1) := by decide +kernel
theorem d_MD_open_84 : decode b_MD_open 84 = .ok (.getfield 41, 3) := by decide +kernel
theorem d_MD_open_87 : decode b_MD_open 87 = .ok (.aload_n 0, 1) := by decide +kernel
theorem d_MD_open_88 : decode b_MD_open 88 = .ok (.getfield 38, 3) := by decide +kernel
theorem d_MD_open_91 : decode b_MD_open 91 = .ok (.iastore, 1) := by decide +kernel
theorem d_MD_open_92 : decode b_MD_open 92 = .ok (.aload_n 0, 1) := by decide +kernel
theorem d_MD_open_93 : decode b_MD_open 93 = .ok (.getfield 41, 3) := by decide +kernel
theorem d_MD_open_96 : decode b_MD_open 96 = .ok (.ireturn, 1) := by decide +kernel
theorem d_MD_close_0 : decode b_MD_close 0 = .ok (.aload_n 0, 1) := by decide +kernel
theorem d_MD_close_1 : decode b_MD_close 1 = .ok (.iconst 0, 1) := by decide +kernel
theorem d_MD_close_2 : decode b_MD_close 2 = .ok (.putfield 34, 3) := by decide +kernel
theorem d_MD_close_5 : decode b_MD_close 5 = .ok (.aload_n 0, 1) := by decide +kernel
theorem d_MD_close_6 : decode b_MD_close 6 = .ok (.getfield 41, 3) := by decide +kernel
theorem d_MD_close_9 : decode b_MD_close 9 = .ok (.ifCond .ne 9, 3) := by decide +kernel
theorem d_MD_close_12 : decode b_MD_close 12 = .ok (.aload_n 0, 1) := by decide +kernel
theorem d_MD_close_13 : decode b_MD_close 13 = .ok (.iconst 1, 1) := by decide +kernel
theorem d_MD_close_14 : decode b_MD_close 14 = .ok (.invokevirtual 48, 3) := by decide +kernel
theorem d_MD_close_17 : decode b_MD_close 17 = .ok (.ireturn, 1) := by decide +kernel
theorem d_MD_close_18 : decode b_MD_close 18 = .ok (.iload_n 1, 1) := by decide +kernel
theorem d_MD_close_19 : decode b_MD_close 19 = .ok (.ifCond .ne 65, 3) := by decide +kernel
theorem d_MD_close_22 : decode b_MD_close 22 = .ok (.iconst 0, 1) := by decide +kernel
theorem d_MD_close_23 : decode b_MD_close 23 = .ok (.istore_n 2, 1) := by decide +kernel
theorem d_MD_close_24 : decode b_MD_close 24 = .ok (.iload_n 2, 1) := by decide +kernel
theorem d_MD_close_25 : decode b_MD_close 25 = .ok (.sipush 256, 3) := by decide +kernel
theorem d_MD_close_28 : decode b_MD_close 28 = .ok (.if_icmp .ge 43, 3) := by decide +kernel
theorem d_MD_close_31 : decode b_MD_close 31 = .ok (.aload_n 0, 1) := by decide +kernel
theorem d_MD_close_32 : decode b_MD_close 32 = .ok (.getfield 23, 3) := by decide +kernel
theorem d_MD_close_35 : decode b_MD_close 35 = .ok (.iload_n 2, 1) := by decide +kernel
theorem d_MD_close_36 : decode b_MD_close 36 = .ok (.aload_n 0, 1) := by decide +kernel
theorem d_MD_close_37 : decode b_MD_close 37 = .ok (.getfield 9, 3) := by decide +kernel
theorem d_MD_close_40 : decode b_MD_close 40 = .ok (.aload_n 0, 1) := by decide +kernel
theorem d_MD_close_41 : decode b_MD_close 41 = .ok (.getfield 41, 3) := by decide +kernel
theorem d_MD_close_44 : decode b_MD_close 44 = .ok (.aaload, 1) := by decide +kernel
theorem d_MD_close_45 : decode b_MD_close 45 = .ok (.iload_n 2, 1) := by decide +kernel
theorem d_MD_close_46 : decode b_MD_close 46 = .ok (.laload, 1) := by decide +kernel
theorem d_MD_close_47 : decode b_MD_close 47 = .ok (.lastore, 1) := by decide +kernel
theorem d_MD_close_48 : decode b_MD_close 48 = .ok (.aload_n 0, 1) := by decide +kernel
theorem d_MD_close_49 : decode b_MD_close 49 = .ok (.getfield 30, 3) := by decide +kernel
theorem d_MD_close_52 : decode b_MD_close 52 = .ok (.iload_n 2, 1) := by decide +kernel
theorem d_MD_close_53 : decode b_MD_close 53 = .ok (.aload_n 0, 1) := by decide +kernel
theorem d_MD_close_54 : decode b_MD_close 54 = .ok (.getfield 16, 3) := by decide +kernel
theorem d_MD_close_57 : decode b_MD_close 57 = .ok (.aload_n 0, 1) := by decide +kernel
theorem d_MD_close_58 : decode b_MD_close 58 = .ok (.getfield 41, 3) := by decide +kernel
theorem d_MD_close_61 : decode b_MD_close 61 = .ok (.aaload, 1) := by decide +kernel
theorem d_MD_close_62 : decode b_MD_close 62 = .ok (.iload_n 2, 1) := by decide +kernel
theorem d_MD_close_63 : decode b_MD_close 63 = .ok (.baload, 1) := by decide +kernel
theorem d_MD_close_64 : decode b_MD_close 64 = .ok (.bastore, 1) := by decide +kernel
theorem d_MD_close_65 : decode b_MD_close 65 = .ok (.iinc 2 1, 3) := by decide +kernel
theorem d_MD_close_68 : decode b_MD_close 68 = .ok (.goto (-44), 3) := by decide +kernel
theorem d_MD_close_71 : decode b_MD_close 71 = .ok (.aload_n 0, 1) := by decide +kernel
theorem d_MD_close_72 : decode b_MD_close 72 = .ok (.aload_n 0, 1) := by decide +kernel
theorem d_MD_close_73 : decode b_MD_close 73 = .ok (.getfield 19, 3) := by decide +kernel
theorem d_MD_close_76 : decode b_MD_close 76 = .ok (.aload_n 0, 1) := by decide +kernel
theorem d_MD_close_77 : decode b_MD_close 77 = .ok (.getfield 41, 3) := by decide +kernel
theorem d_MD_close_80 : decode b_MD_close 80 = .ok (.iaload, 1) := by decide +kernel
theorem d_MD_close_81 : decode b_MD_close 81 = .ok (.putfield 38, 3) := by decide +kernel
theorem d_MD_close_84 : decode b_MD_close 84 = .ok (.aload_n 0, 1) := by decide +kernel
theorem d_MD_close_85 : decode b_MD_close 85 = .ok (.dup, 1) := by decide +kernel
theorem d_MD_close_86 : decode b_MD_close 86 = .ok (.getfield 41, 3) := by decide +kernel
theorem d_MD_close_89 : decode b_MD_close 89 = .ok (.iconst 1, 1) := by decide +kernel
theorem d_MD_close_90 : decode b_MD_close 90 = .ok (.isub, 1) := by decide +kernel
theorem d_MD_close_91 : decode b_MD_close 91 = .ok (.putfield 41, 3) := by decide +kernel
theorem d_MD_close_94 : decode b_MD_close 94 = .ok (.aload_n 0, 1) := by decide +kernel
theorem d_MD_close_95 : decode b_MD_close 95 = .ok (.getfield 41, 3) := by decide +kernel
theorem d_MD_close_98 : decode b_MD_close 98 = .ok (.ireturn, 1) := by decide +kernel
theorem d_MD_out_0 : decode b_MD_out 0 = .ok (.iload_n 1, 1) := by decide +kernel
theorem d_MD_out_1 : decode b_MD_out 1 = .ok (.ifCond .lt 18, 3) := by decide +kernel
theorem d_MD_out_4 : decode b_MD_out 4 = .ok (.iload_n 1, 1) := by decide +kernel
theorem d_MD_out_5 : decode b_MD_out 5 = .ok (.iconst 3, 1) := by decide +kernel
theorem d_MD_out_6 : decode b_MD_out 6 = .ok (.if_icmp .gt 13, 3) := by decide +kernel
theorem d_MD_out_9 : decode b_MD_out 9 = .ok (.iload_n 2, 1) := by decide +kernel
theorem d_MD_out_10 : decode b_MD_out 10 = .ok (.ifCond .lt 9, 3) := by decide +kernel
theorem d_MD_out_13 : decode b_MD_out 13 = .ok (.iload_n 2, 1) := by decide +kernel
theorem d_MD_out_14 : decode b_MD_out 14 = .ok (.bipush 63, 2) := by decide +kernel
theorem d_MD_out_16 : decode b_MD_out 16 = .ok (.if_icmp .le 7, 3) := by decide +kernel
theorem d_MD_out_19 : decode b_MD_out 19 = .ok (.iconst 1, 1) := by decide +kernel
theorem d_MD_out_20 : decode b_MD_out 20 = .ok (.goto 4, 3) := by decide +kernel
theorem d_MD_out_23 : decode b_MD_out 23 = .ok (.iconst 0, 1) := by decide +kernel
theorem d_MD_out_24 : decode b_MD_out 24 = .ok (.ireturn, 1) := by decide +kernel
theorem d_MD_load_0 : decode b_MD_load 0 = .ok (.aload_n 0, 1) := by decide +kernel
theorem d_MD_load_1 : decode b_MD_load 1 = .ok (.iconst 0, 1) := by decide +kernel
theorem d_MD_load_2 : decode b_MD_load 2 = .ok (.putfield 34, 3) := by decide +kernel
theorem d_MD_load_5 : decode b_MD_load 5 = .ok (.aload_n 0, 1) := by decide +kernel
theorem d_MD_load_6 : decode b_MD_load 6 = .ok (.iload_n 1, 1) := by decide +kernel
theorem d_MD_load_7 : decode b_MD_load 7 = .ok (.iload_n 2, 1) := by decide +kernel
theorem d_MD_load_8 : decode b_MD_load 8 = .ok (.invokevirtual 52, 3) := by decide +kernel
theorem d_MD_load_11 : decode b_MD_load 11 = .ok (.ifCond .eq 9, 3) := by decide +kernel
theorem d_MD_load_14 : decode b_MD_load 14 = .ok (.aload_n 0, 1) := by decide +kernel
theorem d_MD_load_15 : decode b_MD_load 15 = .ok (.iconst 1, 1) := by decide +kernel
theorem d_MD_load_16 : decode b_MD_load 16 = .ok (.invokevirtual 48, 3) := by decide +kernel
theorem d_MD_load_19 : decode b_MD_load 19 = .ok (.ireturn, 1) := by decide +kernel
theorem d_MD_load_20 : decode b_MD_load 20 = .ok (.aload_n 0, 1) := by decide +kernel
theorem d_MD_load_21 : decode b_MD_load 21 = .ok (.getfield 30, 3) := by decide +kernel
theorem d_MD_load_24 : decode b_MD_load 24 = .ok (.bipush 64, 2) := by decide +kernel
theorem d_MD_load_26 : decode b_MD_load 26 = .ok (.iload_n 1, 1) := by decide +kernel
theorem d_MD_load_27 : decode b_MD_load 27 = .ok (.imul, 1) := by decide +kernel
theorem d_MD_load_28 : decode b_MD_load 28 = .ok (.iload_n 2, 1) := by decide +kernel
theorem d_MD_load_29 : decode b_MD_load 29 = .ok (.iadd, 1) := by decide +kernel
theorem d_MD_load_30 : decode b_MD_load 30 = .ok (.baload, 1) := by decide +kernel
theorem d_MD_load_31 : decode b_MD_load 31 = .ok (.ifCond .eq 8, 3) := by decide +kernel
theorem d_MD_load_34 : decode b_MD_load 34 = .ok (.bipush 100, 2) := by decide +kernel
theorem d_MD_load_36 : decode b_MD_load 36 = .ok (.goto 6, 3) := by decide +kernel
theorem d_MD_load_39 : decode b_MD_load 39 = .ok (.sipush 2100, 3) := by decide +kernel
theorem d_MD_load_42 : decode b_MD_load 42 = .ok (.istore_n 3, 1) := by decide +kernel
theorem d_MD_load_43 : decode b_MD_load 43 = .ok (.aload_n 0, 1) := by decide +kernel
theorem d_MD_load_44 : decode b_MD_load 44 = .ok (.getfield 30, 3) := by decide +kernel
theorem d_MD_load_47 : decode b_MD_load 47 = .ok (.bipush 64, 2) := by decide +kernel
theorem d_MD_load_49 : decode b_MD_load 49 = .ok (.iload_n 1, 1) := by decide +kernel
theorem d_MD_load_50 : decode b_MD_load 50 = .ok (.imul, 1) := by decide +kernel
theorem d_MD_load_51 : decode b_MD_load 51 = .ok (.iload_n 2, 1) := by decide +kernel
theorem d_MD_load_52 : decode b_MD_load 52 = .ok (.iadd, 1) := by decide +kernel
theorem d_MD_load_53 : decode b_MD_load 53 = .ok (.iconst 1, 1) := by decide +kernel
theorem d_MD_load_54 : decode b_MD_load 54 = .ok (.bastore, 1) := by decide +kernel
theorem d_MD_load_55 : decode b_MD_load 55 = .ok (.iload_n 3, 1) := by decide +kernel
theorem d_MD_load_56 : decode b_MD_load 56 = .ok (.ireturn, 1) := by decide +kernel
theorem d_MD_store_0 : decode b_MD_store 0 = .ok (.aload_n 0, 1) := by decide +kernel
theorem d_MD_store_1 : decode b_MD_store 1 = .ok (.iconst 0, 1) := by decide +kernel
theorem d_MD_store_2 : decode b_MD_store 2 = .ok (.putfield 34, 3) := by decide +kernel
theorem d_MD_store_5 : decode b_MD_store 5 = .ok (.aload_n 0, 1) := by decide +kernel
theorem d_MD_store_6 : decode b_MD_store 6 = .ok (.iload_n 1, 1) := by decide +kernel
theorem d_MD_store_7 : decode b_MD_store 7 = .ok (.iload_n 2, 1) := by decide +kernel
theorem d_MD_store_8 : decode b_MD_store 8 = .ok (.invokevirtual 52, 3) := by decide +kernel
theorem d_MD_store_11 : decode b_MD_store 11 = .ok (.ifCond .eq 9, 3) := by decide +kernel
theorem d_MD_store_14 : decode b_MD_store 14 = .ok (.aload_n 0, 1) := by decide +kernel
theorem d_MD_store_15 : decode b_MD_store 15 = .ok (.iconst 1, 1) := by decide +kernel
theorem d_MD_store_16 : decode b_MD_store 16 = .ok (.invokevirtual 48, 3) := by decide +kernel
theorem d_MD_store_19 : decode b_MD_store 19 = .ok (.ireturn, 1) := by decide +kernel
theorem d_MD_store_20 : decode b_MD_store 20 = .ok (.bipush 64, 2) := by decide +kernel
theorem d_MD_store_22 : decode b_MD_store 22 = .ok (.iload_n 1, 1) := by decide +kernel
theorem d_MD_store_23 : decode b_MD_store 23 = .ok (.imul, 1) := by decide +kernel
theorem d_MD_store_24 : decode b_MD_store 24 = .ok (.iload_n 2, 1) := by decide +kernel
theorem d_MD_store_25 : decode b_MD_store 25 = .ok (.iadd, 1) := by decide +kernel
theorem d_MD_store_26 : decode b_MD_store 26 = .ok (.istore 6, 2) := by decide +kernel
theorem d_MD_store_28 : decode b_MD_store 28 = .ok (.aload_n 0, 1) := by decide +kernel
theorem d_MD_store_29 : decode b_MD_store 29 = .ok (.getfield 30, 3) := by decide +kernel
theorem d_MD_store_32 : decode b_MD_store 32 = .ok (.iload 6, 2) := by decide +kernel
theorem d_MD_store_34 : decode b_MD_store 34 = .ok (.baload, 1) := by decide +kernel
theorem d_MD_store_35 : decode b_MD_store 35 = .ok (.ifCond .eq 7, 3) := by decide +kernel
theorem d_MD_store_38 : decode b_MD_store 38 = .ok (.iconst 0, 1) := by decide +kernel
theorem d_MD_store_39 : decode b_MD_store 39 = .ok (.goto 6, 3) := by decide +kernel
theorem d_MD_store_42 : decode b_MD_store 42 = .ok (.sipush 2100, 3) := by decide +kernel
theorem d_MD_store_45 : decode b_MD_store 45 = .ok (.istore 7, 2) := by decide +kernel
theorem d_MD_store_47 : decode b_MD_store 47 = .ok (.iconst 0, 1) := by decide +kernel
theorem d_MD_store_48 : decode b_MD_store 48 = .ok (.istore 8, 2) := by decide +kernel
theorem d_MD_store_50 : decode b_MD_store 50 = .ok (.aload_n 0, 1) := by decide +kernel
theorem d_MD_store_51 : decode b_MD_store 51 = .ok (.getfield 27, 3) := by decide +kernel
theorem d_MD_store_54 : decode b_MD_store 54 = .ok (.iload 6, 2) := by decide +kernel
theorem d_MD_store_56 : decode b_MD_store 56 = .ok (.laload, 1) := by decide +kernel
theorem d_MD_store_57 : decode b_MD_store 57 = .ok (.lstore 9, 2) := by decide +kernel
theorem d_MD_store_59 : decode b_MD_store 59 = .ok (.aload_n 0, 1) := by decide +kernel
theorem d_MD_store_60 : decode b_MD_store 60 = .ok (.getfield 23, 3) := by decide +kernel
theorem d_MD_store_63 : decode b_MD_store 63 = .ok (.iload 6, 2) := by decide +kernel
theorem d_MD_store_65 : decode b_MD_store 65 = .ok (.laload, 1) := by decide +kernel
theorem d_MD_store_66 : decode b_MD_store 66 = .ok (.lstore 11, 2) := by decide +kernel
theorem d_MD_store_68 : decode b_MD_store 68 = .ok (.lload_n 3, 1) := by decide +kernel
theorem d_MD_store_69 : decode b_MD_store 69 = .ok (.lload 11, 2) := by decide +kernel
theorem d_MD_store_71 : decode b_MD_store 71 = .ok (.lcmp, 1) := by decide +kernel
theorem d_MD_store_72 : decode b_MD_store 72 = .ok (.ifCond .ne 9, 3) := by decide +kernel
theorem d_MD_store_75 : decode b_MD_store 75 = .ok (.iinc 7 100, 3) := by decide +kernel
theorem d_MD_store_78 : decode b_MD_store 78 = .ok (.goto 123, 3) := by decide +kernel
theorem d_MD_store_81 : decode b_MD_store 81 = .ok (.lload 9, 2) := by decide +kernel
theorem d_MD_store_83 : decode b_MD_store 83 = .ok (.lload 11, 2) := by decide +kernel
theorem d_MD_store_85 : decode b_MD_store 85 = .ok (.lcmp, 1) := by decide +kernel
theorem d_MD_store_86 : decode b_MD_store 86 = .ok (.ifCond .ne 45, 3) := by decide +kernel
theorem d_MD_store_89 : decode b_MD_store 89 = .ok (.iload 7, 2) := by decide +kernel
theorem d_MD_store_91 : decode b_MD_store 91 = .ok (.lload 9, 2) := by decide +kernel
theorem d_MD_store_93 : decode b_MD_store 93 = .ok (.lconst 0, 1) := by decide +kernel
theorem d_MD_store_94 : decode b_MD_store 94 = .ok (.lcmp, 1) := by decide +kernel
theorem d_MD_store_95 : decode b_MD_store 95 = .ok (.ifCond .ne 9, 3) := by decide +kernel
theorem d_MD_store_98 : decode b_MD_store 98 = .ok (.sipush 20000, 3) := by decide +kernel
theorem d_MD_store_101 : decode b_MD_store 101 = .ok (.goto 6, 3) := by decide +kernel
theorem d_MD_store_104 : decode b_MD_store 104 = .ok (.sipush 2900, 3) := by decide +kernel
theorem d_MD_store_107 : decode b_MD_store 107 = .ok (.iadd, 1) := by decide +kernel
theorem d_MD_store_108 : decode b_MD_store 108 = .ok (.istore 7, 2) := by decide +kernel
theorem d_MD_store_110 : decode b_MD_store 110 = .ok (.lload 9, 2) := by decide +kernel
theorem d_MD_store_112 : decode b_MD_store 112 = .ok (.lconst 0, 1) := by decide +kernel
theorem d_MD_store_113 : decode b_MD_store 113 = .ok (.lcmp, 1) := by decide +kernel
theorem d_MD_store_114 : decode b_MD_store 114 = .ok (.ifCond .eq 87, 3) := by decide +kernel
theorem d_MD_store_117 : decode b_MD_store 117 = .ok (.lload_n 3, 1) := by decide +kernel
theorem d_MD_store_118 : decode b_MD_store 118 = .ok (.lconst 0, 1) := by decide +kernel
theorem d_MD_store_119 : decode b_MD_store 119 = .ok (.lcmp, 1) := by decide +kernel
theorem d_MD_store_120 : decode b_MD_store 120 = .ok (.ifCond .ne 81, 3) := by decide +kernel
theorem d_MD_store_123 : decode b_MD_store 123 = .ok (.sipush 15000, 3) := by decide +kernel
theorem d_MD_store_126 : decode b_MD_store 126 = .ok (.istore 8, 2) := by decide +kernel
theorem d_MD_store_128 : decode b_MD_store 128 = .ok (.goto 73, 3) := by decide +kernel
theorem d_MD_store_131 : decode b_MD_store 131 = .ok (.iinc 7 100, 3) := by decide +kernel
theorem d_MD_store_134 : decode b_MD_store 134 = .ok (.lload 9, 2) := by decide +kernel
theorem d_MD_store_136 : decode b_MD_store 136 = .ok (.lconst 0, 1) := by decide +kernel
theorem d_MD_store_137 : decode b_MD_store 137 = .ok (.lcmp, 1) := by decide +kernel
theorem d_MD_store_138 : decode b_MD_store 138 = .ok (.ifCond .eq 16, 3) := by decide +kernel
theorem d_MD_store_141 : decode b_MD_store 141 = .ok (.lload 11, 2) := by decide +kernel
theorem d_MD_store_143 : decode b_MD_store 143 = .ok (.lconst 0, 1) := by decide +kernel
theorem d_MD_store_144 : decode b_MD_store 144 = .ok (.lcmp, 1) := by decide +kernel
theorem d_MD_store_145 : decode b_MD_store 145 = .ok (.ifCond .ne 9, 3) := by decide +kernel
theorem d_MD_store_148 : decode b_MD_store 148 = .ok (.iinc 8 (-15000), 6) := by decide +kernel
theorem d_MD_store_154 : decode b_MD_store 154 = .ok (.lload 9, 2) := by decide +kernel
theorem d_MD_store_156 : decode b_MD_store 156 = .ok (.lconst 0, 1) := by decide +kernel
theorem d_MD_store_157 : decode b_MD_store 157 = .ok (.lcmp, 1) := by decide +kernel
theorem d_MD_store_158 : decode b_MD_store 158 = .ok (.ifCond .eq 15, 3) := by decide +kernel
theorem d_MD_store_161 : decode b_MD_store 161 = .ok (.lload_n 3, 1) := by decide +kernel
theorem d_MD_store_162 : decode b_MD_store 162 = .ok (.lconst 0, 1) := by decide +kernel
theorem d_MD_store_163 : decode b_MD_store 163 = .ok (.lcmp, 1) := by decide +kernel
theorem d_MD_store_164 : decode b_MD_store 164 = .ok (.ifCond .ne 9, 3) := by decide +kernel
theorem d_MD_store_167 : decode b_MD_store 167 = .ok (.iinc 8 15000, 6) := by decide +kernel
theorem d_MD_store_173 : decode b_MD_store 173 = .ok (.lload 9, 2) := by decide +kernel
theorem d_MD_store_175 : decode b_MD_store 175 = .ok (.lload_n 3, 1) := by decide +kernel
theorem d_MD_store_176 : decode b_MD_store 176 = .ok (.lcmp, 1) := by decide +kernel
theorem d_MD_store_177 : decode b_MD_store 177 = .ok (.ifCond .ne 24, 3) := by decide +kernel
theorem d_MD_store_180 : decode b_MD_store 180 = .ok (.iload 8, 2) := by decide +kernel
theorem d_MD_store_182 : decode b_MD_store 182 = .ok (.lload 9, 2) := by decide +kernel
theorem d_MD_store_184 : decode b_MD_store 184 = .ok (.lconst 0, 1) := by decide +kernel
theorem d_MD_store_185 : decode b_MD_store 185 = .ok (.lcmp, 1) := by decide +kernel
theorem d_MD_store_186 : decode b_MD_store 186 = .ok (.ifCond .ne 9, 3) := by decide +kernel
theorem d_MD_store_189 : decode b_MD_store 189 = .ok (.sipush 19900, 3) := by decide +kernel
theorem d_MD_store_192 : decode b_MD_store 192 = .ok (.goto 6, 3) := by decide +kernel
theorem d_MD_store_195 : decode b_MD_store 195 = .ok (.sipush 2800, 3) := by decide +kernel
theorem d_MD_store_198 : decode b_MD_store 198 = .ok (.iadd, 1) := by decide +kernel
theorem d_MD_store_199 : decode b_MD_store 199 = .ok (.istore 8, 2) := by decide +kernel
theorem d_MD_store_201 : decode b_MD_store 201 = .ok (.iload 5, 2) := by decide +kernel
theorem d_MD_store_203 : decode b_MD_store 203 = .ok (.sipush 2300, 3) := by decide +kernel
theorem d_MD_store_206 : decode b_MD_store 206 = .ok (.if_icmp .le 10, 3) := by decide +kernel
theorem d_MD_store_209 : decode b_MD_store 209 = .ok (.iload 7, 2) := by decide +kernel
theorem d_MD_store_211 : decode b_MD_store 211 = .ok (.iload 5, 2) := by decide +kernel
theorem d_MD_store_213 : decode b_MD_store 213 = .ok (.if_icmp .le 9, 3) := by decide +kernel
theorem d_MD_store_216 : decode b_MD_store 216 = .ok (.aload_n 0, 1) := by decide +kernel
theorem d_MD_store_217 : decode b_MD_store 217 = .ok (.iconst 2, 1) := by decide +kernel
theorem d_MD_store_218 : decode b_MD_store 218 = .ok (.invokevirtual 48, 3) := by decide +kernel
theorem d_MD_store_221 : decode b_MD_store 221 = .ok (.ireturn, 1) := by decide +kernel
theorem d_MD_store_222 : decode b_MD_store 222 = .ok (.aload_n 0, 1) := by decide +kernel
theorem d_MD_store_223 : decode b_MD_store 223 = .ok (.getfield 30, 3) := by decide +kernel
theorem d_MD_store_226 : decode b_MD_store 226 = .ok (.iload 6, 2) := by decide +kernel
theorem d_MD_store_228 : decode b_MD_store 228 = .ok (.iconst 1, 1) := by decide +kernel
theorem d_MD_store_229 : decode b_MD_store 229 = .ok (.bastore, 1) := by decide +kernel
theorem d_MD_store_230 : decode b_MD_store 230 = .ok (.aload_n 0, 1) := by decide +kernel
theorem d_MD_store_231 : decode b_MD_store 231 = .ok (.getfield 23, 3) := by decide +kernel
theorem d_MD_store_234 : decode b_MD_store 234 = .ok (.iload 6, 2) := by decide +kernel
theorem d_MD_store_236 : decode b_MD_store 236 = .ok (.lload_n 3, 1) := by decide +kernel
theorem d_MD_store_237 : decode b_MD_store 237 = .ok (.lastore, 1) := by decide +kernel
theorem d_MD_store_238 : decode b_MD_store 238 = .ok (.aload_n 0, 1) := by decide +kernel
theorem d_MD_store_239 : decode b_MD_store 239 = .ok (.dup, 1) := by decide +kernel
theorem d_MD_store_240 : decode b_MD_store 240 = .ok (.getfield 38, 3) := by decide +kernel
theorem d_MD_store_243 : decode b_MD_store 243 = .ok (.iload 8, 2) := by decide +kernel
theorem d_MD_store_245 : decode b_MD_store 245 = .ok (.iadd, 1) := by decide +kernel
theorem d_MD_store_246 : decode b_MD_store 246 = .ok (.putfield 38, 3) := by decide +kernel
theorem d_MD_store_249 : decode b_MD_store 249 = .ok (.iload 7, 2) := by decide +kernel
theorem d_MD_store_251 : decode b_MD_store 251 = .ok (.ireturn, 1) := by decide +kernel
theorem d_MD_held_0 : decode b_MD_held 0 = .ok (.aload_n 0, 1) := by decide +kernel
theorem d_MD_held_1 : decode b_MD_held 1 = .ok (.iconst 0, 1) := by decide +kernel
theorem d_MD_held_2 : decode b_MD_held 2 = .ok (.putfield 34, 3) := by decide +kernel
theorem d_MD_held_5 : decode b_MD_held 5 = .ok (.aload_n 0, 1) := by decide +kernel
theorem d_MD_held_6 : decode b_MD_held 6 = .ok (.iload_n 1, 1) := by decide +kernel
theorem d_MD_held_7 : decode b_MD_held 7 = .ok (.iload_n 2, 1) := by decide +kernel
theorem d_MD_held_8 : decode b_MD_held 8 = .ok (.invokevirtual 52, 3) := by decide +kernel
theorem d_MD_held_11 : decode b_MD_held 11 = .ok (.ifCond .eq 10, 3) := by decide +kernel
theorem d_MD_held_14 : decode b_MD_held 14 = .ok (.aload_n 0, 1) := by decide +kernel
theorem d_MD_held_15 : decode b_MD_held 15 = .ok (.iconst 1, 1) := by decide +kernel
theorem d_MD_held_16 : decode b_MD_held 16 = .ok (.invokevirtual 48, 3) := by decide +kernel
theorem d_MD_held_19 : decode b_MD_held 19 = .ok (.i2l, 1) := by decide +kernel
theorem d_MD_held_20 : decode b_MD_held 20 = .ok (.lreturn, 1) := by decide +kernel
theorem d_MD_held_21 : decode b_MD_held 21 = .ok (.iload_n 3, 1) := by decide +kernel
theorem d_MD_held_22 : decode b_MD_held 22 = .ok (.ifCond .eq 17, 3) := by decide +kernel
theorem d_MD_held_25 : decode b_MD_held 25 = .ok (.aload_n 0, 1) := by decide +kernel
theorem d_MD_held_26 : decode b_MD_held 26 = .ok (.getfield 27, 3) := by decide +kernel
theorem d_MD_held_29 : decode b_MD_held 29 = .ok (.bipush 64, 2) := by decide +kernel
theorem d_MD_held_31 : decode b_MD_held 31 = .ok (.iload_n 1, 1) := by decide +kernel
theorem d_MD_held_32 : decode b_MD_held 32 = .ok (.imul, 1) := by decide +kernel
theorem d_MD_held_33 : decode b_MD_held 33 = .ok (.iload_n 2, 1) := by decide +kernel
theorem d_MD_held_34 : decode b_MD_held 34 = .ok (.iadd, 1) := by decide +kernel
theorem d_MD_held_35 : decode b_MD_held 35 = .ok (.laload, 1) := by decide +kernel
theorem d_MD_held_36 : decode b_MD_held 36 = .ok (.goto 14, 3) := by decide +kernel
theorem d_MD_held_39 : decode b_MD_held 39 = .ok (.aload_n 0, 1) := by decide +kernel
theorem d_MD_held_40 : decode b_MD_held 40 = .ok (.getfield 23, 3) := by decide +kernel
theorem d_MD_held_43 : decode b_MD_held 43 = .ok (.bipush 64, 2) := by decide +kernel
theorem d_MD_held_45 : decode b_MD_held 45 = .ok (.iload_n 1, 1) := by decide +kernel
theorem d_MD_held_46 : decode b_MD_held 46 = .ok (.imul, 1) := by decide +kernel
theorem d_MD_held_47 : decode b_MD_held 47 = .ok (.iload_n 2, 1) := by decide +kernel
theorem d_MD_held_48 : decode b_MD_held 48 = .ok (.iadd, 1) := by decide +kernel
theorem d_MD_held_49 : decode b_MD_held 49 = .ok (.laload, 1) := by decide +kernel
theorem d_MD_held_50 : decode b_MD_held 50 = .ok (.lreturn, 1) := by decide +kernel
theorem d_MD_touched_0 : decode b_MD_touched 0 = .ok (.aload_n 0, 1) := by decide +kernel
theorem d_MD_touched_1 : decode b_MD_touched 1 = .ok (.iconst 0, 1) := by decide +kernel
theorem d_MD_touched_2 : decode b_MD_touched 2 = .ok (.putfield 34, 3) := by decide +kernel
theorem d_MD_touched_5 : decode b_MD_touched 5 = .ok (.aload_n 0, 1) := by decide +kernel
theorem d_MD_touched_6 : decode b_MD_touched 6 = .ok (.iload_n 1, 1) := by decide +kernel
theorem d_MD_touched_7 : decode b_MD_touched 7 = .ok (.iload_n 2, 1) := by decide +kernel
theorem d_MD_touched_8 : decode b_MD_touched 8 = .ok (.invokevirtual 52, 3) := by decide +kernel
theorem d_MD_touched_11 : decode b_MD_touched 11 = .ok (.ifCond .eq 19, 3) := by decide +kernel
theorem d_MD_touched_14 : decode b_MD_touched 14 = .ok (.aload_n 0, 1) := by decide +kernel
theorem d_MD_touched_15 : decode b_MD_touched 15 = .ok (.iconst 1, 1) := by decide +kernel
theorem d_MD_touched_16 : decode b_MD_touched 16 = .ok (.invokevirtual 48, 3) := by decide +kernel
theorem d_MD_touched_19 : decode b_MD_touched 19 = .ok (.ifCond .le 7, 3) := by decide +kernel
theorem d_MD_touched_22 : decode b_MD_touched 22 = .ok (.iconst 1, 1) := by decide +kernel
theorem d_MD_touched_23 : decode b_MD_touched 23 = .ok (.goto 18, 3) := by decide +kernel
theorem d_MD_touched_26 : decode b_MD_touched 26 = .ok (.iconst 0, 1) := by decide +kernel
theorem d_MD_touched_27 : decode b_MD_touched 27 = .ok (.goto 14, 3) := by decide +kernel
theorem d_MD_touched_30 : decode b_MD_touched 30 = .ok (.aload_n 0, 1) := by decide +kernel
theorem d_MD_touched_31 : decode b_MD_touched 31 = .ok (.getfield 30, 3) := by decide +kernel
theorem d_MD_touched_34 : decode b_MD_touched 34 = .ok (.bipush 64, 2) := by decide +kernel
theorem d_MD_touched_36 : decode b_MD_touched 36 = .ok (.iload_n 1, 1) := by decide +kernel
theorem d_MD_touched_37 : decode b_MD_touched 37 = .ok (.imul, 1) := by decide +kernel
theorem d_MD_touched_38 : decode b_MD_touched 38 = .ok (.iload_n 2, 1) := by decide +kernel
theorem d_MD_touched_39 : decode b_MD_touched 39 = .ok (.iadd, 1) := by decide +kernel
theorem d_MD_touched_40 : decode b_MD_touched 40 = .ok (.baload, 1) := by decide +kernel
theorem d_MD_touched_41 : decode b_MD_touched 41 = .ok (.ireturn, 1) := by decide +kernel
theorem d_MD_count_0 : decode b_MD_count 0 = .ok (.aload_n 0, 1) := by decide +kernel
theorem d_MD_count_1 : decode b_MD_count 1 = .ok (.iconst 0, 1) := by decide +kernel
theorem d_MD_count_2 : decode b_MD_count 2 = .ok (.putfield 34, 3) := by decide +kernel
theorem d_MD_count_5 : decode b_MD_count 5 = .ok (.iload_n 1, 1) := by decide +kernel
theorem d_MD_count_6 : decode b_MD_count 6 = .ok (.ifCond .lt 8, 3) := by decide +kernel
theorem d_MD_count_9 : decode b_MD_count 9 = .ok (.iload_n 1, 1) := by decide +kernel
theorem d_MD_count_10 : decode b_MD_count 10 = .ok (.iconst 3, 1) := by decide +kernel
theorem d_MD_count_11 : decode b_MD_count 11 = .ok (.if_icmp .le 9, 3) := by decide +kernel
theorem d_MD_count_14 : decode b_MD_count 14 = .ok (.aload_n 0, 1) := by decide +kernel
theorem d_MD_count_15 : decode b_MD_count 15 = .ok (.iconst 1, 1) := by decide +kernel
theorem d_MD_count_16 : decode b_MD_count 16 = .ok (.invokevirtual 48, 3) := by decide +kernel
theorem d_MD_count_19 : decode b_MD_count 19 = .ok (.ireturn, 1) := by decide +kernel
theorem d_MD_count_20 : decode b_MD_count 20 = .ok (.iconst 0, 1) := by decide +kernel
theorem d_MD_count_21 : decode b_MD_count 21 = .ok (.istore_n 2, 1) := by decide +kernel
theorem d_MD_count_22 : decode b_MD_count 22 = .ok (.iconst 0, 1) := by decide +kernel
theorem d_MD_count_23 : decode b_MD_count 23 = .ok (.istore_n 3, 1) := by decide +kernel
theorem d_MD_count_24 : decode b_MD_count 24 = .ok (.iload_n 3, 1) := by decide +kernel
theorem d_MD_count_25 : decode b_MD_count 25 = .ok (.sipush 256, 3) := by decide +kernel
theorem d_MD_count_28 : decode b_MD_count 28 = .ok (.if_icmp .ge 26, 3) := by decide +kernel
theorem d_MD_count_31 : decode b_MD_count 31 = .ok (.iload_n 2, 1) := by decide +kernel
theorem d_MD_count_32 : decode b_MD_count 32 = .ok (.aload_n 0, 1) := by decide +kernel
theorem d_MD_count_33 : decode b_MD_count 33 = .ok (.getfield 30, 3) := by decide +kernel
theorem d_MD_count_36 : decode b_MD_count 36 = .ok (.iload_n 3, 1) := by decide +kernel
theorem d_MD_count_37 : decode b_MD_count 37 = .ok (.baload, 1) := by decide +kernel
theorem d_MD_count_38 : decode b_MD_count 38 = .ok (.ifCond .eq 7, 3) := by decide +kernel
theorem d_MD_count_41 : decode b_MD_count 41 = .ok (.iconst 1, 1) := by decide +kernel
theorem d_MD_count_42 : decode b_MD_count 42 = .ok (.goto 4, 3) := by decide +kernel
theorem d_MD_count_45 : decode b_MD_count 45 = .ok (.iconst 0, 1) := by decide +kernel
theorem d_MD_count_46 : decode b_MD_count 46 = .ok (.iadd, 1) := by decide +kernel
theorem d_MD_count_47 : decode b_MD_count 47 = .ok (.istore_n 2, 1) := by decide +kernel
theorem d_MD_count_48 : decode b_MD_count 48 = .ok (.iinc 3 1, 3) := by decide +kernel
theorem d_MD_count_51 : decode b_MD_count 51 = .ok (.goto (-27), 3) := by decide +kernel
theorem d_MD_count_54 : decode b_MD_count 54 = .ok (.iload_n 1, 1) := by decide +kernel
theorem d_MD_count_55 : decode b_MD_count 55 = .ok (.ifCond .ne 10, 3) := by decide +kernel
theorem d_MD_count_58 : decode b_MD_count 58 = .ok (.aload_n 0, 1) := by decide +kernel
theorem d_MD_count_59 : decode b_MD_count 59 = .ok (.getfield 38, 3) := by decide +kernel
theorem d_MD_count_62 : decode b_MD_count 62 = .ok (.goto 28, 3) := by decide +kernel
theorem d_MD_count_65 : decode b_MD_count 65 = .ok (.iload_n 1, 1) := by decide +kernel
theorem d_MD_count_66 : decode b_MD_count 66 = .ok (.iconst 1, 1) := by decide +kernel
theorem d_MD_count_67 : decode b_MD_count 67 = .ok (.if_icmp .ne 7, 3) := by decide +kernel
theorem d_MD_count_70 : decode b_MD_count 70 = .ok (.iload_n 2, 1) := by decide +kernel
theorem d_MD_count_71 : decode b_MD_count 71 = .ok (.goto 19, 3) := by decide +kernel
theorem d_MD_count_74 : decode b_MD_count 74 = .ok (.iload_n 1, 1) := by decide +kernel
theorem d_MD_count_75 : decode b_MD_count 75 = .ok (.iconst 2, 1) := by decide +kernel
theorem d_MD_count_76 : decode b_MD_count 76 = .ok (.if_icmp .ne 10, 3) := by decide +kernel
theorem d_MD_count_79 : decode b_MD_count 79 = .ok (.aload_n 0, 1) := by decide +kernel
theorem d_MD_count_80 : decode b_MD_count 80 = .ok (.getfield 41, 3) := by decide +kernel
theorem d_MD_count_83 : decode b_MD_count 83 = .ok (.goto 7, 3) := by decide +kernel
theorem d_MD_count_86 : decode b_MD_count 86 = .ok (.aload_n 0, 1) := by decide +kernel
theorem d_MD_count_87 : decode b_MD_count 87 = .ok (.invokevirtual 44, 3) := by decide +kernel
theorem d_MD_count_90 : decode b_MD_count 90 = .ok (.ireturn, 1) := by decide +kernel
theorem d_LW_open_0 : decode b_LW_open 0 = .ok (.aload_n 1, 1) := by decide +kernel
theorem d_LW_open_1 : decode b_LW_open 1 = .ok (.iconst 0, 1) := by decide +kernel
theorem d_LW_open_2 : decode b_LW_open 2 = .ok (.aload_n 0, 1) := by decide +kernel
theorem d_LW_open_3 : decode b_LW_open 3 = .ok (.invokevirtual 7, 3) := by decide +kernel
theorem d_LW_open_6 : decode b_LW_open 6 = .ok (.i2l, 1) := by decide +kernel
theorem d_LW_open_7 : decode b_LW_open 7 = .ok (.lastore, 1) := by decide +kernel
theorem d_LW_open_8 : decode b_LW_open 8 = .ok (.goto 6, 3) := by decide +kernel
theorem d_LW_open_11 : decode b_LW_open 11 = .ok (.astore_n 2, 1) := by decide +kernel
theorem d_LW_open_12 : decode b_LW_open 12 = .ok (.iconst 1, 1) := by decide +kernel
theorem d_LW_open_13 : decode b_LW_open 13 = .ok (.ireturn, 1) := by decide +kernel
theorem d_LW_open_14 : decode b_LW_open 14 = .ok (.iconst 0, 1) := by decide +kernel
theorem d_LW_open_15 : decode b_LW_open 15 = .ok (.ireturn, 1) := by decide +kernel
theorem d_LW_close_0 : decode b_LW_close 0 = .ok (.aload_n 2, 1) := by decide +kernel
theorem d_LW_close_1 : decode b_LW_close 1 = .ok (.iconst 0, 1) := by decide +kernel
theorem d_LW_close_2 : decode b_LW_close 2 = .ok (.aload_n 0, 1) := by decide +kernel
theorem d_LW_close_3 : decode b_LW_close 3 = .ok (.iload_n 1, 1) := by decide +kernel
theorem d_LW_close_4 : decode b_LW_close 4 = .ok (.invokevirtual 15, 3) := by decide +kernel
theorem d_LW_close_7 : decode b_LW_close 7 = .ok (.i2l, 1) := by decide +kernel
theorem d_LW_close_8 : decode b_LW_close 8 = .ok (.lastore, 1) := by decide +kernel
theorem d_LW_close_9 : decode b_LW_close 9 = .ok (.goto 6, 3) := by decide +kernel
theorem d_LW_close_12 : decode b_LW_close 12 = .ok (.astore_n 3, 1) := by decide +kernel
theorem d_LW_close_13 : decode b_LW_close 13 = .ok (.iconst 1, 1) := by decide +kernel
theorem d_LW_close_14 : decode b_LW_close 14 = .ok (.ireturn, 1) := by decide +kernel
theorem d_LW_close_15 : decode b_LW_close 15 = .ok (.iconst 0, 1) := by decide +kernel
theorem d_LW_close_16 : decode b_LW_close 16 = .ok (.ireturn, 1) := by decide +kernel
theorem d_LW_load_0 : decode b_LW_load 0 = .ok (.aload_n 3, 1) := by decide +kernel
theorem d_LW_load_1 : decode b_LW_load 1 = .ok (.iconst 0, 1) := by decide +kernel
theorem d_LW_load_2 : decode b_LW_load 2 = .ok (.aload_n 0, 1) := by decide +kernel
theorem d_LW_load_3 : decode b_LW_load 3 = .ok (.iload_n 1, 1) := by decide +kernel
theorem d_LW_load_4 : decode b_LW_load 4 = .ok (.iload_n 2, 1) := by decide +kernel
theorem d_LW_load_5 : decode b_LW_load 5 = .ok (.invokevirtual 21, 3) := by decide +kernel
theorem d_LW_load_8 : decode b_LW_load 8 = .ok (.i2l, 1) := by decide +kernel
theorem d_LW_load_9 : decode b_LW_load 9 = .ok (.lastore, 1) := by decide +kernel
theorem d_LW_load_10 : decode b_LW_load 10 = .ok (.goto 7, 3) := by decide +kernel
theorem d_LW_load_13 : decode b_LW_load 13 = .ok (.astore 4, 2) := by decide +kernel
theorem d_LW_load_15 : decode b_LW_load 15 = .ok (.iconst 1, 1) := by decide +kernel
theorem d_LW_load_16 : decode b_LW_load 16 = .ok (.ireturn, 1) := by decide +kernel
theorem d_LW_load_17 : decode b_LW_load 17 = .ok (.iconst 0, 1) := by decide +kernel
theorem d_LW_load_18 : decode b_LW_load 18 = .ok (.ireturn, 1) := by decide +kernel
theorem d_LW_store_0 : decode b_LW_store 0 = .ok (.aload 6, 2) := by decide +kernel
theorem d_LW_store_2 : decode b_LW_store 2 = .ok (.iconst 0, 1) := by decide +kernel
theorem d_LW_store_3 : decode b_LW_store 3 = .ok (.aload_n 0, 1) := by decide +kernel
theorem d_LW_store_4 : decode b_LW_store 4 = .ok (.iload_n 1, 1) := by decide +kernel
theorem d_LW_store_5 : decode b_LW_store 5 = .ok (.iload_n 2, 1) := by decide +kernel
theorem d_LW_store_6 : decode b_LW_store 6 = .ok (.lload_n 3, 1) := by decide +kernel
theorem d_LW_store_7 : decode b_LW_store 7 = .ok (.iload 5, 2) := by decide +kernel
theorem d_LW_store_9 : decode b_LW_store 9 = .ok (.invokevirtual 27, 3) := by decide +kernel
theorem d_LW_store_12 : decode b_LW_store 12 = .ok (.i2l, 1) := by decide +kernel
theorem d_LW_store_13 : decode b_LW_store 13 = .ok (.lastore, 1) := by decide +kernel
theorem d_LW_store_14 : decode b_LW_store 14 = .ok (.goto 11, 3) := by decide +kernel
theorem d_LW_store_17 : decode b_LW_store 17 = .ok (.astore 7, 2) := by decide +kernel
theorem d_LW_store_19 : decode b_LW_store 19 = .ok (.iconst 1, 1) := by decide +kernel
theorem d_LW_store_20 : decode b_LW_store 20 = .ok (.ireturn, 1) := by decide +kernel
theorem d_LW_store_21 : decode b_LW_store 21 = .ok (.astore 7, 2) := by decide +kernel
theorem d_LW_store_23 : decode b_LW_store 23 = .ok (.iconst 2, 1) := by decide +kernel
theorem d_LW_store_24 : decode b_LW_store 24 = .ok (.ireturn, 1) := by decide +kernel
theorem d_LW_store_25 : decode b_LW_store 25 = .ok (.iconst 0, 1) := by decide +kernel
theorem d_LW_store_26 : decode b_LW_store 26 = .ok (.ireturn, 1) := by decide +kernel
theorem d_LW_held_0 : decode b_LW_held 0 = .ok (.aload 4, 2) := by decide +kernel
theorem d_LW_held_2 : decode b_LW_held 2 = .ok (.iconst 0, 1) := by decide +kernel
theorem d_LW_held_3 : decode b_LW_held 3 = .ok (.aload_n 0, 1) := by decide +kernel
theorem d_LW_held_4 : decode b_LW_held 4 = .ok (.iload_n 1, 1) := by decide +kernel
theorem d_LW_held_5 : decode b_LW_held 5 = .ok (.iload_n 2, 1) := by decide +kernel
theorem d_LW_held_6 : decode b_LW_held 6 = .ok (.iload_n 3, 1) := by decide +kernel
theorem d_LW_held_7 : decode b_LW_held 7 = .ok (.invokevirtual 31, 3) := by decide +kernel
theorem d_LW_held_10 : decode b_LW_held 10 = .ok (.lastore, 1) := by decide +kernel
theorem d_LW_held_11 : decode b_LW_held 11 = .ok (.goto 7, 3) := by decide +kernel
theorem d_LW_held_14 : decode b_LW_held 14 = .ok (.astore 5, 2) := by decide +kernel
theorem d_LW_held_16 : decode b_LW_held 16 = .ok (.iconst 1, 1) := by decide +kernel
theorem d_LW_held_17 : decode b_LW_held 17 = .ok (.ireturn, 1) := by decide +kernel
theorem d_LW_held_18 : decode b_LW_held 18 = .ok (.iconst 0, 1) := by decide +kernel
theorem d_LW_held_19 : decode b_LW_held 19 = .ok (.ireturn, 1) := by decide +kernel
theorem d_LW_touched_0 : decode b_LW_touched 0 = .ok (.aload_n 3, 1) := by decide +kernel
theorem d_LW_touched_1 : decode b_LW_touched 1 = .ok (.iconst 0, 1) := by decide +kernel
theorem d_LW_touched_2 : decode b_LW_touched 2 = .ok (.aload_n 0, 1) := by decide +kernel
theorem d_LW_touched_3 : decode b_LW_touched 3 = .ok (.iload_n 1, 1) := by decide +kernel
theorem d_LW_touched_4 : decode b_LW_touched 4 = .ok (.iload_n 2, 1) := by decide +kernel
theorem d_LW_touched_5 : decode b_LW_touched 5 = .ok (.invokevirtual 35, 3) := by decide +kernel
theorem d_LW_touched_8 : decode b_LW_touched 8 = .ok (.ifCond .eq 7, 3) := by decide +kernel
theorem d_LW_touched_11 : decode b_LW_touched 11 = .ok (.lconst 1, 1) := by decide +kernel
theorem d_LW_touched_12 : decode b_LW_touched 12 = .ok (.goto 4, 3) := by decide +kernel
theorem d_LW_touched_15 : decode b_LW_touched 15 = .ok (.lconst 0, 1) := by decide +kernel
theorem d_LW_touched_16 : decode b_LW_touched 16 = .ok (.lastore, 1) := by decide +kernel
theorem d_LW_touched_17 : decode b_LW_touched 17 = .ok (.goto 7, 3) := by decide +kernel
theorem d_LW_touched_20 : decode b_LW_touched 20 = .ok (.astore 4, 2) := by decide +kernel
theorem d_LW_touched_22 : decode b_LW_touched 22 = .ok (.iconst 1, 1) := by decide +kernel
theorem d_LW_touched_23 : decode b_LW_touched 23 = .ok (.ireturn, 1) := by decide +kernel
theorem d_LW_touched_24 : decode b_LW_touched 24 = .ok (.iconst 0, 1) := by decide +kernel
theorem d_LW_touched_25 : decode b_LW_touched 25 = .ok (.ireturn, 1) := by decide +kernel
theorem d_LW_count_0 : decode b_LW_count 0 = .ok (.aload_n 2, 1) := by decide +kernel
theorem d_LW_count_1 : decode b_LW_count 1 = .ok (.iconst 0, 1) := by decide +kernel
theorem d_LW_count_2 : decode b_LW_count 2 = .ok (.aload_n 0, 1) := by decide +kernel
theorem d_LW_count_3 : decode b_LW_count 3 = .ok (.iload_n 1, 1) := by decide +kernel
theorem d_LW_count_4 : decode b_LW_count 4 = .ok (.invokevirtual 39, 3) := by decide +kernel
theorem d_LW_count_7 : decode b_LW_count 7 = .ok (.i2l, 1) := by decide +kernel
theorem d_LW_count_8 : decode b_LW_count 8 = .ok (.lastore, 1) := by decide +kernel
theorem d_LW_count_9 : decode b_LW_count 9 = .ok (.goto 6, 3) := by decide +kernel
theorem d_LW_count_12 : decode b_LW_count 12 = .ok (.astore_n 3, 1) := by decide +kernel
theorem d_LW_count_13 : decode b_LW_count 13 = .ok (.iconst 1, 1) := by decide +kernel
theorem d_LW_count_14 : decode b_LW_count 14 = .ok (.ireturn, 1) := by decide +kernel
theorem d_LW_count_15 : decode b_LW_count 15 = .ok (.iconst 0, 1) := by decide +kernel
theorem d_LW_count_16 : decode b_LW_count 16 = .ok (.ireturn, 1) := by decide +kernel
end
section
/-! throw new E(): the words, and the walk -/
abbrev sx_nm : List String := ["java/lang/RuntimeException", "java/lang/Exception"]
def sx_ok (a : Jvm.Cond) : Prop := (a ∈ lw_tbl ∧ sx_good a) ∨ a = sx_s1 ∨ a = sx_s2 ∨ a = sx_s3 ∨ a = sx_s4
theorem sx_ok.use {a : Jvm.Cond} (h : sx_ok a) {U : State} (hT : sx_TB U) (hS : sx_TS U) (args : Array Value) : a.before args U = true := by
  rcases h with ⟨h1, h2⟩ | rfl | rfl | rfl | rfl
  · exact hT.use h1 h2 args
  · exact hS.1
  · exact hS.2.1
  · exact hS.2.2.1
  · exact hS.2.2.2
abbrev E_IAE : String := "java/lang/IllegalArgumentException"
theorem sx_at_IAE : ∀ a ∈ Bundle.ownAtoms0 sx_SC 28 E_IAE sx_nm, sx_ok a := by
  refine List.forall_mem_cons.mpr ⟨Or.inl ⟨sx_tb (i := 8) rfl, Or.inl rfl⟩, ?_⟩
  refine List.forall_mem_cons.mpr ⟨Or.inl ⟨sx_tb (i := 121) rfl, Or.inl rfl⟩, ?_⟩
  refine List.forall_mem_cons.mpr ⟨Or.inl ⟨sx_tb (i := 130) rfl, Or.inl rfl⟩, ?_⟩
  refine List.forall_mem_cons.mpr ⟨Or.inl ⟨sx_tb (i := 134) rfl, Or.inl rfl⟩, ?_⟩
  refine List.forall_mem_cons.mpr ⟨Or.inl ⟨sx_tb (i := 137) rfl, Or.inl rfl⟩, ?_⟩
  refine List.forall_mem_cons.mpr ⟨Or.inl ⟨sx_tb (i := 139) rfl, Or.inl rfl⟩, ?_⟩
  refine List.forall_mem_cons.mpr ⟨Or.inl ⟨sx_tb (i := 122) rfl, Or.inl rfl⟩, ?_⟩
  refine List.forall_mem_cons.mpr ⟨Or.inl ⟨sx_tb (i := 123) rfl, Or.inl rfl⟩, ?_⟩
  refine List.forall_mem_cons.mpr ⟨Or.inl ⟨sx_tb (i := 20) rfl, Or.inl rfl⟩, ?_⟩
  refine List.forall_mem_cons.mpr ⟨Or.inl ⟨sx_tb (i := 21) rfl, Or.inl rfl⟩, ?_⟩
  refine List.forall_mem_cons.mpr ⟨Or.inl ⟨sx_tb (i := 124) rfl, Or.inl rfl⟩, ?_⟩
  refine List.forall_mem_cons.mpr ⟨Or.inl ⟨sx_tb (i := 129) rfl, Or.inl rfl⟩, ?_⟩
  refine List.forall_mem_cons.mpr ⟨Or.inl ⟨sx_tb (i := 135) rfl, Or.inl rfl⟩, ?_⟩
  refine List.forall_mem_cons.mpr ⟨Or.inl ⟨sx_tb (i := 151) rfl, Or.inl rfl⟩, ?_⟩
  refine List.forall_mem_cons.mpr ⟨Or.inl ⟨sx_tb (i := 111) rfl, Or.inl rfl⟩, ?_⟩
  refine List.forall_mem_cons.mpr ⟨Or.inl ⟨sx_tb (i := 152) rfl, Or.inl rfl⟩, ?_⟩
  refine List.forall_mem_cons.mpr ⟨Or.inl ⟨sx_tb (i := 113) rfl, Or.inl rfl⟩, ?_⟩
  refine List.forall_mem_cons.mpr ⟨Or.inl ⟨sx_tb (i := 153) rfl, Or.inl rfl⟩, ?_⟩
  refine List.forall_mem_cons.mpr ⟨Or.inl ⟨sx_tb (i := 115) rfl, Or.inl rfl⟩, ?_⟩
  refine List.forall_mem_cons.mpr ⟨Or.inl ⟨sx_tb (i := 125) rfl, Or.inl rfl⟩, ?_⟩
  refine List.forall_mem_cons.mpr ⟨Or.inr (Or.inl rfl), ?_⟩
  refine List.forall_mem_cons.mpr ⟨Or.inl ⟨sx_tb (i := 127) rfl, Or.inl rfl⟩, ?_⟩
  refine List.forall_mem_cons.mpr ⟨Or.inr (Or.inr (Or.inl rfl)), ?_⟩
  refine List.forall_mem_cons.mpr ⟨Or.inl ⟨sx_tb (i := 117) rfl, Or.inl rfl⟩, ?_⟩
  refine List.forall_mem_cons.mpr ⟨Or.inl ⟨sx_tb (i := 219) rfl, Or.inl rfl⟩, ?_⟩
  refine List.forall_mem_cons.mpr ⟨Or.inl ⟨sx_tb (i := 220) rfl, Or.inl rfl⟩, ?_⟩
  refine List.forall_mem_cons.mpr ⟨Or.inl ⟨sx_tb (i := 221) rfl, Or.inl rfl⟩, ?_⟩
  refine List.forall_mem_cons.mpr ⟨Or.inl ⟨sx_tb (i := 144) rfl, Or.inl rfl⟩, ?_⟩
  refine List.forall_mem_cons.mpr ⟨Or.inl ⟨sx_tb (i := 102) rfl, Or.inr (Or.inr (Or.inr (Or.inl ⟨_, rfl⟩)))⟩, ?_⟩
  refine List.forall_mem_cons.mpr ⟨Or.inl ⟨sx_tb (i := 144) rfl, Or.inl rfl⟩, ?_⟩
  refine List.forall_mem_cons.mpr ⟨Or.inl ⟨sx_tb (i := 145) rfl, Or.inl rfl⟩, ?_⟩
  refine List.forall_mem_cons.mpr ⟨Or.inl ⟨sx_tb (i := 146) rfl, Or.inl rfl⟩, ?_⟩
  refine List.forall_mem_cons.mpr ⟨Or.inl ⟨sx_tb (i := 147) rfl, Or.inl rfl⟩, ?_⟩
  refine List.forall_mem_cons.mpr ⟨Or.inl ⟨sx_tb (i := 104) rfl, Or.inr (Or.inr (Or.inr (Or.inl ⟨_, rfl⟩)))⟩, ?_⟩
  refine List.forall_mem_cons.mpr ⟨Or.inl ⟨sx_tb (i := 147) rfl, Or.inl rfl⟩, ?_⟩
  refine List.forall_mem_cons.mpr ⟨Or.inl ⟨sx_tb (i := 148) rfl, Or.inl rfl⟩, ?_⟩
  refine List.forall_mem_cons.mpr ⟨Or.inl ⟨sx_tb (i := 149) rfl, Or.inl rfl⟩, ?_⟩
  refine List.forall_mem_cons.mpr ⟨Or.inl ⟨sx_tb (i := 122) rfl, Or.inl rfl⟩, ?_⟩
  refine List.forall_mem_cons.mpr ⟨Or.inl ⟨sx_tb (i := 106) rfl, Or.inr (Or.inr (Or.inr (Or.inl ⟨_, rfl⟩)))⟩, ?_⟩
  refine List.forall_mem_cons.mpr ⟨Or.inl ⟨sx_tb (i := 218) rfl, Or.inl rfl⟩, ?_⟩
  refine List.forall_mem_cons.mpr ⟨Or.inl ⟨sx_tb (i := 210) rfl, Or.inl rfl⟩, ?_⟩
  refine List.forall_mem_cons.mpr ⟨Or.inl ⟨sx_tb (i := 211) rfl, Or.inr (Or.inr (Or.inl ⟨_, _, rfl⟩))⟩, ?_⟩
  refine List.forall_mem_cons.mpr ⟨Or.inl ⟨sx_tb (i := 212) rfl, Or.inl rfl⟩, ?_⟩
  refine List.forall_mem_cons.mpr ⟨Or.inl ⟨sx_tb (i := 132) rfl, Or.inl rfl⟩, ?_⟩
  refine List.forall_mem_cons.mpr ⟨Or.inl ⟨sx_tb (i := 213) rfl, Or.inl rfl⟩, ?_⟩
  refine List.forall_mem_cons.mpr ⟨Or.inl ⟨sx_tb (i := 214) rfl, Or.inl rfl⟩, ?_⟩
  refine List.forall_mem_cons.mpr ⟨Or.inl ⟨sx_tb (i := 215) rfl, Or.inl rfl⟩, ?_⟩
  refine List.forall_mem_cons.mpr ⟨Or.inl ⟨sx_tb (i := 216) rfl, Or.inl rfl⟩, ?_⟩
  refine List.forall_mem_cons.mpr ⟨Or.inr (Or.inr (Or.inr (Or.inl rfl))), ?_⟩
  refine List.forall_mem_cons.mpr ⟨Or.inr (Or.inr (Or.inr (Or.inr rfl))), ?_⟩
  refine List.forall_mem_cons.mpr ⟨Or.inl ⟨sx_tb (i := 120) rfl, Or.inl rfl⟩, ?_⟩
  refine List.forall_mem_cons.mpr ⟨Or.inl ⟨sx_tb (i := 119) rfl, Or.inl rfl⟩, ?_⟩
  refine List.forall_mem_cons.mpr ⟨Or.inl ⟨sx_tb (i := 217) rfl, Or.inl rfl⟩, ?_⟩
  exact fun _ h => absurd h List.not_mem_nil
theorem sx_cl_IAE : Jvm.Cond.classLink sx_SC 26 E_IAE ∈ lw_tbl := sx_tb (i := 209) rfl
theorem sx_ins_IAE : Jvm.Cond.instantiable E_IAE 6 ∈ lw_tbl := sx_tb (i := 210) rfl
theorem sx_ini_IAE : Jvm.Cond.initialized E_IAE ∈ lw_tbl := sx_tb (i := 13) rfl
theorem sx_cast_IAE : Jvm.Cond.castable E_IAE E_IAE ∈ lw_tbl := sx_tb (i := 211) rfl
theorem sx_clL_IAE : Jvm.Cond.classLink sx_LW 25 E_IAE ∈ lw_tbl := sx_tb (i := 201) rfl
abbrev E_ISE : String := "java/lang/IllegalStateException"
theorem sx_at_ISE : ∀ a ∈ Bundle.ownAtoms0 sx_SC 54 E_ISE sx_nm, sx_ok a := by
  refine List.forall_mem_cons.mpr ⟨Or.inl ⟨sx_tb (i := 8) rfl, Or.inl rfl⟩, ?_⟩
  refine List.forall_mem_cons.mpr ⟨Or.inl ⟨sx_tb (i := 121) rfl, Or.inl rfl⟩, ?_⟩
  refine List.forall_mem_cons.mpr ⟨Or.inl ⟨sx_tb (i := 130) rfl, Or.inl rfl⟩, ?_⟩
  refine List.forall_mem_cons.mpr ⟨Or.inl ⟨sx_tb (i := 134) rfl, Or.inl rfl⟩, ?_⟩
  refine List.forall_mem_cons.mpr ⟨Or.inl ⟨sx_tb (i := 137) rfl, Or.inl rfl⟩, ?_⟩
  refine List.forall_mem_cons.mpr ⟨Or.inl ⟨sx_tb (i := 139) rfl, Or.inl rfl⟩, ?_⟩
  refine List.forall_mem_cons.mpr ⟨Or.inl ⟨sx_tb (i := 122) rfl, Or.inl rfl⟩, ?_⟩
  refine List.forall_mem_cons.mpr ⟨Or.inl ⟨sx_tb (i := 123) rfl, Or.inl rfl⟩, ?_⟩
  refine List.forall_mem_cons.mpr ⟨Or.inl ⟨sx_tb (i := 20) rfl, Or.inl rfl⟩, ?_⟩
  refine List.forall_mem_cons.mpr ⟨Or.inl ⟨sx_tb (i := 21) rfl, Or.inl rfl⟩, ?_⟩
  refine List.forall_mem_cons.mpr ⟨Or.inl ⟨sx_tb (i := 124) rfl, Or.inl rfl⟩, ?_⟩
  refine List.forall_mem_cons.mpr ⟨Or.inl ⟨sx_tb (i := 129) rfl, Or.inl rfl⟩, ?_⟩
  refine List.forall_mem_cons.mpr ⟨Or.inl ⟨sx_tb (i := 135) rfl, Or.inl rfl⟩, ?_⟩
  refine List.forall_mem_cons.mpr ⟨Or.inl ⟨sx_tb (i := 151) rfl, Or.inl rfl⟩, ?_⟩
  refine List.forall_mem_cons.mpr ⟨Or.inl ⟨sx_tb (i := 111) rfl, Or.inl rfl⟩, ?_⟩
  refine List.forall_mem_cons.mpr ⟨Or.inl ⟨sx_tb (i := 152) rfl, Or.inl rfl⟩, ?_⟩
  refine List.forall_mem_cons.mpr ⟨Or.inl ⟨sx_tb (i := 113) rfl, Or.inl rfl⟩, ?_⟩
  refine List.forall_mem_cons.mpr ⟨Or.inl ⟨sx_tb (i := 153) rfl, Or.inl rfl⟩, ?_⟩
  refine List.forall_mem_cons.mpr ⟨Or.inl ⟨sx_tb (i := 115) rfl, Or.inl rfl⟩, ?_⟩
  refine List.forall_mem_cons.mpr ⟨Or.inl ⟨sx_tb (i := 125) rfl, Or.inl rfl⟩, ?_⟩
  refine List.forall_mem_cons.mpr ⟨Or.inr (Or.inl rfl), ?_⟩
  refine List.forall_mem_cons.mpr ⟨Or.inl ⟨sx_tb (i := 127) rfl, Or.inl rfl⟩, ?_⟩
  refine List.forall_mem_cons.mpr ⟨Or.inr (Or.inr (Or.inl rfl)), ?_⟩
  refine List.forall_mem_cons.mpr ⟨Or.inl ⟨sx_tb (i := 117) rfl, Or.inl rfl⟩, ?_⟩
  refine List.forall_mem_cons.mpr ⟨Or.inl ⟨sx_tb (i := 192) rfl, Or.inl rfl⟩, ?_⟩
  refine List.forall_mem_cons.mpr ⟨Or.inl ⟨sx_tb (i := 193) rfl, Or.inl rfl⟩, ?_⟩
  refine List.forall_mem_cons.mpr ⟨Or.inl ⟨sx_tb (i := 194) rfl, Or.inl rfl⟩, ?_⟩
  refine List.forall_mem_cons.mpr ⟨Or.inl ⟨sx_tb (i := 144) rfl, Or.inl rfl⟩, ?_⟩
  refine List.forall_mem_cons.mpr ⟨Or.inl ⟨sx_tb (i := 102) rfl, Or.inr (Or.inr (Or.inr (Or.inl ⟨_, rfl⟩)))⟩, ?_⟩
  refine List.forall_mem_cons.mpr ⟨Or.inl ⟨sx_tb (i := 144) rfl, Or.inl rfl⟩, ?_⟩
  refine List.forall_mem_cons.mpr ⟨Or.inl ⟨sx_tb (i := 145) rfl, Or.inl rfl⟩, ?_⟩
  refine List.forall_mem_cons.mpr ⟨Or.inl ⟨sx_tb (i := 146) rfl, Or.inl rfl⟩, ?_⟩
  refine List.forall_mem_cons.mpr ⟨Or.inl ⟨sx_tb (i := 147) rfl, Or.inl rfl⟩, ?_⟩
  refine List.forall_mem_cons.mpr ⟨Or.inl ⟨sx_tb (i := 104) rfl, Or.inr (Or.inr (Or.inr (Or.inl ⟨_, rfl⟩)))⟩, ?_⟩
  refine List.forall_mem_cons.mpr ⟨Or.inl ⟨sx_tb (i := 147) rfl, Or.inl rfl⟩, ?_⟩
  refine List.forall_mem_cons.mpr ⟨Or.inl ⟨sx_tb (i := 148) rfl, Or.inl rfl⟩, ?_⟩
  refine List.forall_mem_cons.mpr ⟨Or.inl ⟨sx_tb (i := 149) rfl, Or.inl rfl⟩, ?_⟩
  refine List.forall_mem_cons.mpr ⟨Or.inl ⟨sx_tb (i := 122) rfl, Or.inl rfl⟩, ?_⟩
  refine List.forall_mem_cons.mpr ⟨Or.inl ⟨sx_tb (i := 106) rfl, Or.inr (Or.inr (Or.inr (Or.inl ⟨_, rfl⟩)))⟩, ?_⟩
  refine List.forall_mem_cons.mpr ⟨Or.inl ⟨sx_tb (i := 191) rfl, Or.inl rfl⟩, ?_⟩
  refine List.forall_mem_cons.mpr ⟨Or.inl ⟨sx_tb (i := 183) rfl, Or.inl rfl⟩, ?_⟩
  refine List.forall_mem_cons.mpr ⟨Or.inl ⟨sx_tb (i := 184) rfl, Or.inr (Or.inr (Or.inl ⟨_, _, rfl⟩))⟩, ?_⟩
  refine List.forall_mem_cons.mpr ⟨Or.inl ⟨sx_tb (i := 185) rfl, Or.inl rfl⟩, ?_⟩
  refine List.forall_mem_cons.mpr ⟨Or.inl ⟨sx_tb (i := 133) rfl, Or.inl rfl⟩, ?_⟩
  refine List.forall_mem_cons.mpr ⟨Or.inl ⟨sx_tb (i := 186) rfl, Or.inl rfl⟩, ?_⟩
  refine List.forall_mem_cons.mpr ⟨Or.inl ⟨sx_tb (i := 187) rfl, Or.inl rfl⟩, ?_⟩
  refine List.forall_mem_cons.mpr ⟨Or.inl ⟨sx_tb (i := 188) rfl, Or.inl rfl⟩, ?_⟩
  refine List.forall_mem_cons.mpr ⟨Or.inl ⟨sx_tb (i := 189) rfl, Or.inl rfl⟩, ?_⟩
  refine List.forall_mem_cons.mpr ⟨Or.inr (Or.inr (Or.inr (Or.inl rfl))), ?_⟩
  refine List.forall_mem_cons.mpr ⟨Or.inr (Or.inr (Or.inr (Or.inr rfl))), ?_⟩
  refine List.forall_mem_cons.mpr ⟨Or.inl ⟨sx_tb (i := 120) rfl, Or.inl rfl⟩, ?_⟩
  refine List.forall_mem_cons.mpr ⟨Or.inl ⟨sx_tb (i := 119) rfl, Or.inl rfl⟩, ?_⟩
  refine List.forall_mem_cons.mpr ⟨Or.inl ⟨sx_tb (i := 190) rfl, Or.inl rfl⟩, ?_⟩
  exact fun _ h => absurd h List.not_mem_nil
theorem sx_cl_ISE : Jvm.Cond.classLink sx_SC 52 E_ISE ∈ lw_tbl := sx_tb (i := 182) rfl
theorem sx_ins_ISE : Jvm.Cond.instantiable E_ISE 6 ∈ lw_tbl := sx_tb (i := 183) rfl
theorem sx_ini_ISE : Jvm.Cond.initialized E_ISE ∈ lw_tbl := sx_tb (i := 12) rfl
theorem sx_cast_ISE : Jvm.Cond.castable E_ISE E_ISE ∈ lw_tbl := sx_tb (i := 184) rfl
theorem sx_clL_ISE : Jvm.Cond.classLink sx_LW 19 E_ISE ∈ lw_tbl := sx_tb (i := 177) rfl
abbrev E_IOE : String := "java/lang/IndexOutOfBoundsException"
theorem sx_at_IOE : ∀ a ∈ Bundle.ownAtoms0 sx_SC 42 E_IOE sx_nm, sx_ok a := by
  refine List.forall_mem_cons.mpr ⟨Or.inl ⟨sx_tb (i := 8) rfl, Or.inl rfl⟩, ?_⟩
  refine List.forall_mem_cons.mpr ⟨Or.inl ⟨sx_tb (i := 121) rfl, Or.inl rfl⟩, ?_⟩
  refine List.forall_mem_cons.mpr ⟨Or.inl ⟨sx_tb (i := 130) rfl, Or.inl rfl⟩, ?_⟩
  refine List.forall_mem_cons.mpr ⟨Or.inl ⟨sx_tb (i := 134) rfl, Or.inl rfl⟩, ?_⟩
  refine List.forall_mem_cons.mpr ⟨Or.inl ⟨sx_tb (i := 137) rfl, Or.inl rfl⟩, ?_⟩
  refine List.forall_mem_cons.mpr ⟨Or.inl ⟨sx_tb (i := 139) rfl, Or.inl rfl⟩, ?_⟩
  refine List.forall_mem_cons.mpr ⟨Or.inl ⟨sx_tb (i := 122) rfl, Or.inl rfl⟩, ?_⟩
  refine List.forall_mem_cons.mpr ⟨Or.inl ⟨sx_tb (i := 123) rfl, Or.inl rfl⟩, ?_⟩
  refine List.forall_mem_cons.mpr ⟨Or.inl ⟨sx_tb (i := 20) rfl, Or.inl rfl⟩, ?_⟩
  refine List.forall_mem_cons.mpr ⟨Or.inl ⟨sx_tb (i := 21) rfl, Or.inl rfl⟩, ?_⟩
  refine List.forall_mem_cons.mpr ⟨Or.inl ⟨sx_tb (i := 124) rfl, Or.inl rfl⟩, ?_⟩
  refine List.forall_mem_cons.mpr ⟨Or.inl ⟨sx_tb (i := 129) rfl, Or.inl rfl⟩, ?_⟩
  refine List.forall_mem_cons.mpr ⟨Or.inl ⟨sx_tb (i := 135) rfl, Or.inl rfl⟩, ?_⟩
  refine List.forall_mem_cons.mpr ⟨Or.inl ⟨sx_tb (i := 151) rfl, Or.inl rfl⟩, ?_⟩
  refine List.forall_mem_cons.mpr ⟨Or.inl ⟨sx_tb (i := 111) rfl, Or.inl rfl⟩, ?_⟩
  refine List.forall_mem_cons.mpr ⟨Or.inl ⟨sx_tb (i := 152) rfl, Or.inl rfl⟩, ?_⟩
  refine List.forall_mem_cons.mpr ⟨Or.inl ⟨sx_tb (i := 113) rfl, Or.inl rfl⟩, ?_⟩
  refine List.forall_mem_cons.mpr ⟨Or.inl ⟨sx_tb (i := 153) rfl, Or.inl rfl⟩, ?_⟩
  refine List.forall_mem_cons.mpr ⟨Or.inl ⟨sx_tb (i := 115) rfl, Or.inl rfl⟩, ?_⟩
  refine List.forall_mem_cons.mpr ⟨Or.inl ⟨sx_tb (i := 125) rfl, Or.inl rfl⟩, ?_⟩
  refine List.forall_mem_cons.mpr ⟨Or.inr (Or.inl rfl), ?_⟩
  refine List.forall_mem_cons.mpr ⟨Or.inl ⟨sx_tb (i := 127) rfl, Or.inl rfl⟩, ?_⟩
  refine List.forall_mem_cons.mpr ⟨Or.inr (Or.inr (Or.inl rfl)), ?_⟩
  refine List.forall_mem_cons.mpr ⟨Or.inl ⟨sx_tb (i := 117) rfl, Or.inl rfl⟩, ?_⟩
  refine List.forall_mem_cons.mpr ⟨Or.inl ⟨sx_tb (i := 141) rfl, Or.inl rfl⟩, ?_⟩
  refine List.forall_mem_cons.mpr ⟨Or.inl ⟨sx_tb (i := 142) rfl, Or.inl rfl⟩, ?_⟩
  refine List.forall_mem_cons.mpr ⟨Or.inl ⟨sx_tb (i := 143) rfl, Or.inl rfl⟩, ?_⟩
  refine List.forall_mem_cons.mpr ⟨Or.inl ⟨sx_tb (i := 144) rfl, Or.inl rfl⟩, ?_⟩
  refine List.forall_mem_cons.mpr ⟨Or.inl ⟨sx_tb (i := 102) rfl, Or.inr (Or.inr (Or.inr (Or.inl ⟨_, rfl⟩)))⟩, ?_⟩
  refine List.forall_mem_cons.mpr ⟨Or.inl ⟨sx_tb (i := 144) rfl, Or.inl rfl⟩, ?_⟩
  refine List.forall_mem_cons.mpr ⟨Or.inl ⟨sx_tb (i := 145) rfl, Or.inl rfl⟩, ?_⟩
  refine List.forall_mem_cons.mpr ⟨Or.inl ⟨sx_tb (i := 146) rfl, Or.inl rfl⟩, ?_⟩
  refine List.forall_mem_cons.mpr ⟨Or.inl ⟨sx_tb (i := 147) rfl, Or.inl rfl⟩, ?_⟩
  refine List.forall_mem_cons.mpr ⟨Or.inl ⟨sx_tb (i := 104) rfl, Or.inr (Or.inr (Or.inr (Or.inl ⟨_, rfl⟩)))⟩, ?_⟩
  refine List.forall_mem_cons.mpr ⟨Or.inl ⟨sx_tb (i := 147) rfl, Or.inl rfl⟩, ?_⟩
  refine List.forall_mem_cons.mpr ⟨Or.inl ⟨sx_tb (i := 148) rfl, Or.inl rfl⟩, ?_⟩
  refine List.forall_mem_cons.mpr ⟨Or.inl ⟨sx_tb (i := 149) rfl, Or.inl rfl⟩, ?_⟩
  refine List.forall_mem_cons.mpr ⟨Or.inl ⟨sx_tb (i := 122) rfl, Or.inl rfl⟩, ?_⟩
  refine List.forall_mem_cons.mpr ⟨Or.inl ⟨sx_tb (i := 106) rfl, Or.inr (Or.inr (Or.inr (Or.inl ⟨_, rfl⟩)))⟩, ?_⟩
  refine List.forall_mem_cons.mpr ⟨Or.inl ⟨sx_tb (i := 140) rfl, Or.inl rfl⟩, ?_⟩
  refine List.forall_mem_cons.mpr ⟨Or.inl ⟨sx_tb (i := 100) rfl, Or.inl rfl⟩, ?_⟩
  refine List.forall_mem_cons.mpr ⟨Or.inl ⟨sx_tb (i := 101) rfl, Or.inr (Or.inr (Or.inl ⟨_, _, rfl⟩))⟩, ?_⟩
  refine List.forall_mem_cons.mpr ⟨Or.inl ⟨sx_tb (i := 108) rfl, Or.inl rfl⟩, ?_⟩
  refine List.forall_mem_cons.mpr ⟨Or.inl ⟨sx_tb (i := 109) rfl, Or.inl rfl⟩, ?_⟩
  refine List.forall_mem_cons.mpr ⟨Or.inl ⟨sx_tb (i := 110) rfl, Or.inl rfl⟩, ?_⟩
  refine List.forall_mem_cons.mpr ⟨Or.inl ⟨sx_tb (i := 112) rfl, Or.inl rfl⟩, ?_⟩
  refine List.forall_mem_cons.mpr ⟨Or.inl ⟨sx_tb (i := 114) rfl, Or.inl rfl⟩, ?_⟩
  refine List.forall_mem_cons.mpr ⟨Or.inl ⟨sx_tb (i := 116) rfl, Or.inl rfl⟩, ?_⟩
  refine List.forall_mem_cons.mpr ⟨Or.inr (Or.inr (Or.inr (Or.inl rfl))), ?_⟩
  refine List.forall_mem_cons.mpr ⟨Or.inr (Or.inr (Or.inr (Or.inr rfl))), ?_⟩
  refine List.forall_mem_cons.mpr ⟨Or.inl ⟨sx_tb (i := 120) rfl, Or.inl rfl⟩, ?_⟩
  refine List.forall_mem_cons.mpr ⟨Or.inl ⟨sx_tb (i := 119) rfl, Or.inl rfl⟩, ?_⟩
  refine List.forall_mem_cons.mpr ⟨Or.inl ⟨sx_tb (i := 118) rfl, Or.inl rfl⟩, ?_⟩
  exact fun _ h => absurd h List.not_mem_nil
theorem sx_cl_IOE : Jvm.Cond.classLink sx_SC 40 E_IOE ∈ lw_tbl := sx_tb (i := 99) rfl
theorem sx_ins_IOE : Jvm.Cond.instantiable E_IOE 6 ∈ lw_tbl := sx_tb (i := 100) rfl
theorem sx_ini_IOE : Jvm.Cond.initialized E_IOE ∈ lw_tbl := sx_tb (i := 11) rfl
theorem sx_cast_IOE : Jvm.Cond.castable E_IOE E_IOE ∈ lw_tbl := sx_tb (i := 101) rfl
theorem sx_clL_IOE : Jvm.Cond.classLink sx_LW 13 E_IOE ∈ lw_tbl := sx_tb (i := 94) rfl
section SXN
variable {p : Program} {l : Launch} {e : Env} {R : Room} {s : State} {m : MethodId} {args : Array Value} {below : List Frame} {meth : Method} {c : Code} {H : Heap} {locs : List Loc} {cells slots : Nat} {Q : State → Prop} {cc : ByteArray} {nL : Nat} {own : String} {G : sx_G} {pc : Nat} {ls : Array Slot} {rest : List Value}
/-- throw new E(), in a method that has changed nothing -/
theorem sx_throw (C0 : sx_C p s m c cc nL own G) (htr : e.platform.stackTraces = false) (hTS : sx_TS s) (hH : s.heap.size ≤ H.size) {E : String} {idx ic : Nat} (hat : ∀ a ∈ Bundle.ownAtoms0 own ic E sx_nm, sx_ok a) (hfit : Bundle.fit E = true) (hcl : Jvm.Cond.classLink own idx E ∈ lw_tbl) (hins : Jvm.Cond.instantiable E 6 ∈ lw_tbl) (hini : Jvm.Cond.initialized E ∈ lw_tbl)
    (he : c.exceptionTable.toList = []) (hlk : meth.locks = false) (hsz : ls.size = nL) (hW : (rest.map fun v => v.category).sum ≤ 8) (hf : cells + 1 ≤ R.cells ∧ slots + 6 ≤ R.slots) (hR : 6 ≤ R.frames ∧ 90 ≤ R.locals)
    (hd0 : decode cc pc = .ok (.new idx, 3)) (hd1 : decode cc (pc + 3) = .ok (.dup, 1)) (hd2 : decode cc (pc + 3 + 1) = .ok (.invokespecial ic, 3)) (hd3 : decode cc (pc + 3 + 1 + 3) = .ok (.athrow, 1)) :
    W p l e R s m args below meth c H [] cells slots (sx_XQ below E args s (cells + 1) (slots + 6)) (F0 m pc ls rest) := by
  have hTB := C0.2.2.2.2.1
  refine W.newc C0.1 C0.2.1 C0.2.2.2.1 (hTB.use hcl (Or.inl rfl) args) (hTB.use hins (Or.inl rfl) args) (hTB.use hini (Or.inl rfl) args) rfl hd0 hf.1 hf.2 (fun cC kC h1 h2 h3 h4 => ?_)
  refine lv_dup C0.1 C0.2.1 hd1 rfl ?_
  intro T hT X
  obtain ⟨U, hsteps, hrun, hend, hWU, hsame, ce, hce, hoc⟩ := X.ctorThrow0 C0.1 htr (own := own) (cls := E) (names := sx_nm) (ic := ic) C0.2.2.2.1 hfit (by decide +kernel) (fun a ha => (hat a ha).use hTB hTS args) (fun x hx => by cases hx) h1 h2 (a := H.size) (by rw [hT]; exact Array.getElem?_push_size) hH
    (g := F0 m (pc + 3 + 1) ls (.ref H.size :: .ref H.size :: rest)) rfl (hsz.trans C0.2.2.1.symm) rfl rfl (rest := rest) rfl (by rw [C0.2.1]; exact hd2) (by rw [C0.2.1]; exact hd3) (by rw [he]; intro y hy; cases hy) (by show 5 < R.frames; omega)
    (by show 2 * 0 + (1 + (rest.map fun v => v.category).sum) + 80 ≤ R.locals; omega) hlk
  exact ⟨U, hsteps, .threw H.size, hrun, hend, H.size, ce, rfl, hH, hce, by rw [hoc.vm]; rfl, hoc.cls, hWU, hsame⟩
/-- a contract of a method with an exception table -/
theorem sx_Ctr.ofT {y : MethodName} {maxL : Nat} {ret : Option FieldType} {hh : List (Nat × Nat × Nat × Nat)} {rm : Room} {as : List Value} {ws : va_W} {Post : Option Value → (Nat → Prop) → Heap → Prop} {B : State → Prop} (hy : plainName y.cls = true) (hn : (lg_sl as).length ≤ maxL)
    (body : ∀ (p : Program) (e : Env) (s : State) (m : MethodId) (below : List Frame) (meth : Method) (c : Code) (ls : Array Slot) (A : Nat → Prop), sx_C p s m c cc maxL y.cls G → c.exceptionTable.toList.map (fun h => (h.startPc, h.endPc, h.handlerPc, h.catchType)) = hh → meth.sig.returnType = ret → meth.locks = false → lv_has ls maxL (lv_args 0 as) → va_P G.1 sx_cls ws s.heap → va_D A ws → (∀ q, s.heap.size ≤ q → A q) → va_S A s.heap s.heap [] → B s →
      W p l e rm s m as.toArray below meth c s.heap [] 0 0 (MQ below (sx_Q Post A) as.toArray s rm.cells rm.slots A) (F0 m 0 ls [])) :
    ∀ sz : Nat, Met l y [.codeWith y cc maxL ret hh] rm (va_Pc as (fun U => sx_pre G ws sz U ∧ B U)) (sx_Q Post (va_A ws sz)) rm.cells rm.slots (va_A ws sz) := by
  intro sz
  refine va_MetW (cc := cc) (maxL := maxL) (ret := ret) (hh := hh) hy rfl ?_
  intro p e s m args below meth c s₁ B0 hml hv
  obtain ⟨rfl, ⟨hC, hsz, hP, hD0⟩, hB⟩ := hv
  subst hsz
  have hcw := atoms_spec (ws := [Jvm.Cond.codeWith y cc maxL ret hh]) B0.pre _ List.mem_cons_self
  obtain ⟨m9, meth9, c9, hn9, hm9, hc9, -, -, ht9, -⟩ := Jvm.Cond.codeWith_spec hcw
  cases B0.named.symm.trans hn9
  cases B0.method.symm.trans hm9
  cases (Stand.of_body B0).code.symm.trans hc9
  rw [lg_entry_eq]
  exact body p e s m below meth c _ _ ⟨B0.exec, B0.bytes, hml, findClass_of_methodNamed B0.named, hC⟩ ht9 B0.returns B0.notSynchronized (lv_entry as hn) hP hD0.self (fun q h => Or.inr h) va_S.rf hB
/-- invokestatic of a method with an exception table -/
theorem sx_cSW (C0 : sx_C p s m c cc nL own G) {y : MethodName} {idx n maxL : Nat} {bytes : ByteArray} {ret : Option FieldType} {hh : List (Nat × Nat × Nat × Nat)} {rm : Room} {As st0 : List Value} {wa wc wb : va_W} {A : Nat → Prop} {Post : Option Value → (Nat → Prop) → Heap → Prop} {B : State → Prop}
    (hM : ∀ sz : Nat, Met l y [.codeWith y bytes maxL ret hh] rm (va_Pc As (fun U => sx_pre G wc sz U ∧ B U)) (sx_Q Post (va_A wc sz)) rm.cells rm.slots (va_A wc sz)) (hBl : ∀ (U : State) (g : JFrame) (mk : MethodId) (a : Array Value), B U → B (U.calling g mk a)) (hs : sx_site own idx y (.codeWith y bytes maxL ret hh) n) (hi : Jvm.Cond.static y ∈ lw_tbl) (hR : rm.frames + 1 ≤ R.frames ∧ 8 + (maxL + 11) + rm.locals ≤ R.locals) (hn : As.length = n)
    (hP : va_P G.1 sx_cls (wa ++ (wc ++ wb)) H) (hD : va_D A (wa ++ (wc ++ wb))) (hS : va_S A s.heap H locs) (hA : ∀ q, s.heap.size ≤ q → A q) (hB : ∀ U : State, U.heap = H → s.WarmedH U.vm → B U) (hsz : ls.size = nL) (hst : st0 = As.reverse ++ rest) (hW : (rest.map fun v => v.category).sum ≤ 8) (hdg : decode cc pc = .ok (.invokestatic idx, 3)) (hf : cells + rm.cells ≤ R.cells ∧ slots + rm.slots ≤ R.slots)
    (kk : ∀ (v : Option Value) (H1 : Heap) (locs1 : List Loc), Post v (va_A wc H.size) H1 → (∀ w1 : va_W, va_P G.1 sx_cls w1 H1 → va_D (va_A wc H.size) w1 → va_P G.1 sx_cls (wa ++ (w1 ++ wb)) H1 ∧ va_D A (wa ++ (w1 ++ wb))) → va_S A s.heap H1 locs1 → W p l e R s m args below meth c H1 locs1 (cells + rm.cells) (slots + rm.slots) Q (F0 m (pc + 3) ls (v.toList ++ rest))) : W p l e R s m args below meth c H locs cells slots Q (F0 m pc ls st0) := by
  have hTB := C0.2.2.2.2.1
  obtain ⟨hlink, hini, hcm, hy, hd⟩ := hs
  have hlen : ∀ sig, parseMethodDescriptor y.desc = some sig → As.length = sig.parameters.length := fun sig h => by
    rw [h] at hd
    exact hn.trans (Option.some.inj hd).symm
  refine sx_cont (wa := wa) (wc := wc) (wb := wb) (mc := rm.cells) (ms := rm.slots) (a := As.toArray) ?_ hP hD hS hA kk
  intro T hT X
  have hbl : FrameBlind (va_Pc As (fun U => sx_pre G wc H.size U ∧ B U)) := fun a U g mk q => by
    obtain ⟨q0, ⟨q1, q2, qP, qD⟩, qB⟩ := q
    exact ⟨q0, ⟨q1.same (U := U.calling g mk a) rfl, q2, qP, qD⟩, hBl U g mk a qB⟩
  have hK : Back l R p e below s args y 3 8 (PreOf R rm.cells rm.slots (va_Pc As (fun U => sx_pre G wc H.size U ∧ B U))) (PostOf (sx_Q Post (va_A wc H.size)) rm.cells rm.slots (va_A wc H.size)) :=
    va_backW (hh := hh) (bytes := bytes) (maxL := maxL) (ret := ret) (hM H.size) hbl rfl rfl hR.1 hR.2 (fun w hw a' U hWm => by rw [List.mem_singleton.mp hw]; exact (hTB.warm hWm).use hcm (Or.inl rfl) a') (List.mem_singleton.mpr rfl) (fun a' U hWm => (hTB.warm hWm).use hini (Or.inl rfl) a')
  subst hst
  obtain ⟨mk, methM, cM, hnamed, hmethM, -, -, -, -, -, -, hsigM⟩ := Jvm.Cond.codeWith_spec (hTB.use hcm (Or.inl rfl) args)
  have hstatic : methM.isStatic = true := Jvm.Cond.static_spec hnamed hmethM (hTB.use hi (Or.inl rfl) args)
  obtain ⟨kP, hkP, -⟩ := className_of_methodNamed hnamed
  have hinitP : kP.init = .initialized := Jvm.Cond.initialized_spec (findClass_of_methodNamed hnamed) hkP (hTB.use hini (Or.inl rfl) args)
  obtain ⟨vm₁, X₁, hstep₁⟩ := X.invokestatic C0.1 C0.2.2.2.1 (hTB.use hlink (Or.inl rfl) args) hnamed hmethM hstatic hkP hinitP hy (g := F0 m pc ls (As.reverse ++ rest)) rfl (argsL := As) (rest := rest) (hlen _ hsigM) rfl (by rw [C0.2.1]; exact hdg)
  obtain ⟨v, ⟨U', l2, c2, s2⟩, X', ⟨g', mk', t, L, e1, e2, hq, h1, hL, h2, h3⟩, hsteps⟩ := hK m meth c ⟨T.setVm vm₁, locs, cells, slots⟩ (F0 m pc ls rest) (.invokestatic idx) mk As.toArray X₁ rfl (hsz.trans C0.2.2.1.symm) (by rw [C0.2.1]; exact hdg) (lv_room hW) (X₁.named hnamed)
    ⟨hf.1, hf.2, rfl, ⟨C0.2.2.2.2.warm X₁.warmed, by show T.heap.size = _; rw [hT], by show va_P _ _ _ T.heap; rw [hT]; exact sx_mid hP, sx_midD hD⟩, hB _ hT X₁.warmed⟩
  dsimp only [Pt.U, Pt.locs, Pt.cells, Pt.slots] at X' e1 e2 h1 h2 h3 hsteps
  subst h1; subst h2; subst h3
  exact ⟨v, (T.setVm vm₁).calling g' mk' As.toArray, t, U', L, hT, X', hL, e1, e2, hq, fun target h => hstep₁ _ fun acts => by rw [doInvoke_state]; exact hsteps.trans h⟩
/-- aaload of an array of arrays -/
theorem sx_aald (C0 : sx_C p s m c cc nL own G) {ws : va_W} {a n i t0 : Nat} {cA : ClassId} {ty : FieldType} {f : Nat → Option Nat} {v : Nat} (hP : va_P G.1 sx_cls ws H) (q0 : Nat) (he : ws[q0]? = some (a, .inl (cA, n, .inr (.inr (.inr (.inr f)))))) (ht : (sx_tys G)[t0]? = some (cA, .array ty)) {x : Int32} (hx : x = nI i) (hi : i < n) (hn : n < 2 ^ 31) (hv : f i = some v) (hdg : decode cc pc = .ok (.aaload, 1))
    (kk : W p l e R s m args below meth c H locs cells slots Q (F0 m (pc + 1) ls (.ref v :: rest))) : W p l e R s m args below meth c H locs cells slots Q (F0 m pc ls (.int x :: .ref a :: rest)) := by
  subst hx
  have hin : vp_in (nI i) n := vp_in_nI hi hn
  have hcl : (nI i).toNatClampNeg = i := nI_clamp (by omega)
  refine W.aald (v := .ref v) (ty := .array ty) C0.1 C0.2.1 (hP q0 _ he) ((C0.2.2.2.2.2.1.2 t0 _ ht).1 n (fun j => va_rf (f j))) rfl (fun q => by cases q) (by show ¬ (nI i < 0 ∨ (arrV _ _ _).slots.size ≤ _); rw [arrV_size]; exact hin) (by show (arrV _ _ _).slots[_]? = _; rw [hcl, arrV_read _ _ hi, hv]; rfl) rfl rfl hdg kk
end SXN
end
section
/-! multianewarray, two dimensions: the state behind i rows, what it holds, the instruction -/
def sx_out (cA : ClassId) (N h i : Nat) : Cell := arrV cA N (fun j => if j < i then .ref (h + 1 + j) else .null)
theorem sx_out_set (cA : ClassId) (N h i : Nat) : (sx_out cA N h i).setSlot i (.ref (h + 1 + i)) = sx_out cA N h (i + 1) := by
  unfold sx_out
  rw [arrV_store]
  congr 1
  funext j
  unfold updV
  by_cases e1 : j = i
  · subst e1
    rw [if_pos rfl, if_pos (Nat.lt_succ_self _)]
  · rw [if_neg e1]
    show (if j < i then Value.ref (h + 1 + j) else Value.null) = _
    by_cases e2 : j < i
    · rw [if_pos e2, if_pos (by omega)]
    · rw [if_neg e2, if_neg (by omega)]
def sx_gr (T : State) (cA cB : ClassId) (N M : Nat) (dv : Value) (i : Nat) : State :=
  Nat.rec (T.pushCell (sx_out cA N T.heap.size 0)) (fun i S => (S.pushCell (arrV cB M (fun _ => dv))).setCell T.heap.size (sx_out cA N T.heap.size (i + 1))) i
theorem sx_gr_s (T : State) (cA cB : ClassId) (N M : Nat) (dv : Value) (i : Nat) : sx_gr T cA cB N M dv (i + 1) = ((sx_gr T cA cB N M dv i).pushCell (arrV cB M (fun _ => dv))).setCell T.heap.size (sx_out cA N T.heap.size (i + 1)) := rfl
theorem sx_gr_top (T : State) (f : JFrame) (cA cB : ClassId) (N M : Nat) (dv : Value) (i : Nat) : sx_gr (T.setTop f) cA cB N M dv i = (sx_gr T cA cB N M dv i).setTop f := by
  induction i with
  | zero => rfl
  | succ i ih => rw [sx_gr_s, sx_gr_s, ih, State.heap_setTop, State.pushCell_setTop, State.setCell_setTop]
theorem sx_gr_ok (T : State) (cA cB : ClassId) (N M : Nat) (dv : Value) (i : Nat) : (sx_gr T cA cB N M dv i).heap.size = T.heap.size + 1 + i ∧ (sx_gr T cA cB N M dv i).heap[T.heap.size]? = some (sx_out cA N T.heap.size i) ∧ (sx_gr T cA cB N M dv i).vm = T.vm ∧ (sx_gr T cA cB N M dv i).slotsUsed = T.slotsUsed + N + i * M ∧
    (∀ q, q < T.heap.size → (sx_gr T cA cB N M dv i).heap[q]? = T.heap[q]?) ∧ ∀ j, j < i → (sx_gr T cA cB N M dv i).heap[T.heap.size + 1 + j]? = some (arrV cB M (fun _ => dv)) := by
  induction i with
  | zero =>
    refine ⟨by show (T.heap.push _).size = _; simp, by show (T.heap.push _)[_]? = _; simp, rfl, ?_, fun q hq => State.heap_pushCell_of_lt _ _ hq, fun j hj => absurd hj (Nat.not_lt_zero _)⟩
    show T.slotsUsed + (sx_out cA N T.heap.size 0).slots.size = _
    rw [show (sx_out cA N T.heap.size 0).slots.size = N from arrV_size _ _ _]
    omega
  | succ i ih =>
    obtain ⟨h1, h2, h3, h4, h5, h6⟩ := ih
    rw [sx_gr_s]
    have hp : ∀ q, q < T.heap.size + 1 + i → ((sx_gr T cA cB N M dv i).pushCell (arrV cB M (fun _ => dv))).heap[q]? = (sx_gr T cA cB N M dv i).heap[q]? := fun q hq => State.heap_pushCell_of_lt _ _ (by rw [h1]; exact hq)
    have hc : ((sx_gr T cA cB N M dv i).pushCell (arrV cB M (fun _ => dv))).heap[T.heap.size]? = some (sx_out cA N T.heap.size i) := by rw [hp _ (by omega)]; exact h2
    refine ⟨?_, State.heap_setCell_self hc, h3, ?_, fun q hq => ?_, fun j hj => ?_⟩
    · rw [size_setCell, size_pushCell, h1]; omega
    · show (sx_gr T cA cB N M dv i).slotsUsed + (arrV cB M (fun _ => dv)).slots.size = _
      rw [h4, arrV_size, Nat.succ_mul]; omega
    · rw [State.heap_setCell_other (show T.heap.size ≠ q from Nat.ne_of_gt hq), hp q (by omega)]; exact h5 q hq
    · rw [State.heap_setCell_other (show T.heap.size ≠ T.heap.size + 1 + j by omega)]
      rcases Nat.lt_or_ge j i with hj2 | hj2
      · rw [hp _ (by omega)]; exact h6 j hj2
      · have e1 : j = i := by omega
        subst e1
        show ((sx_gr T cA cB N M dv j).heap.push _)[_]? = _
        rw [← h1]; simp
section SXM
variable {p : Program} {l : Launch} {e : Env} {R : Room} {s : State} {m : MethodId} {args : Array Value} {below : List Frame} {meth : Method} {c : Code} {H : Heap} {locs : List Loc} {cells slots : Nat} {Q : State → Prop} {cc : ByteArray} {nL : Nat} {own : String} {G : sx_G} {pc : Nat} {ls : Array Slot} {rest : List Value}
theorem sx_gr_stand {T : State} (X : Stand p l e R s m args below meth c T locs cells slots) (cA cB : ClassId) (N M : Nat) (dv : Value) (i : Nat) : Stand p l e R s m args below meth c (sx_gr T cA cB N M dv i) (locs ++ (List.range i).map (fun j => ⟨T.heap.size, j⟩)) (cells + 1 + i) (slots + N + i * M) := by
  induction i with
  | zero =>
    have h := X.pushed (sx_out cA N T.heap.size 0)
    rw [show (sx_out cA N T.heap.size 0).slots.size = N from arrV_size _ _ _] at h
    rw [List.range_zero, List.map_nil, List.append_nil, Nat.zero_mul]
    exact h
  | succ i ih =>
    obtain ⟨h1, h2, -⟩ := sx_gr_ok T cA cB N M dv i
    have hc : ((sx_gr T cA cB N M dv i).pushCell (arrV cB M (fun _ => dv))).heap[T.heap.size]? = some (sx_out cA N T.heap.size i) := by rw [State.heap_pushCell_of_lt _ _ (show T.heap.size < (sx_gr T cA cB N M dv i).heap.size by rw [h1]; omega)]; exact h2
    have h := (ih.pushed (arrV cB M (fun _ => dv))).stored hc i (.ref (T.heap.size + 1 + i))
    rw [arrV_size, sx_out_set] at h
    rw [sx_gr_s, List.range_succ, List.map_append, ← List.append_assoc, show cells + 1 + (i + 1) = cells + 1 + i + 1 from rfl, show slots + N + (i + 1) * M = slots + N + i * M + M by rw [Nat.succ_mul]; omega]
    exact h
theorem sx_refFits {t : FieldType} (h : t.isReference = true) {v : Value} (hv : v = .null ∨ ∃ a, v = .ref a) : fits t v = true := by
  rcases hv with rfl | ⟨a, rfl⟩ <;> cases t <;> first | rfl | (simp [FieldType.isReference] at h)
theorem sx_wpNew {E : CtlPost} {d : Bool} {acts : List Action} {S : State} {cA comp : ClassId} {k : Class} {ty : FieldType} {N : Nat} {v : Value} {Qa : Addr → Pre} (hk : S.vm.classes[cA]? = some k) (hkind : k.kind = .array comp ty) (h1 : ¬ N > e.platform.arrayLengthLimit) (h2 : ¬ N * componentBytes ty > e.platform.maxHeapBytes)
    (h3 : S.heap.size < e.platform.maxCells) (h4 : S.slotsUsed + N ≤ e.platform.maxSlots) (hf : fits ty v = true) (hq : ∀ acts', Qa S.heap.size d acts' (S.pushCell (arrV cA N (fun _ => v)))) : wp (Jvm.newArray cA N v) Qa E e d acts S :=
  W.newArray_of hk hkind h1 h2 h3 h4 hf (fun acts' => by
    have := hq acts'
    rw [← arrV_new] at this
    exact this)
theorem sx_wpMake {E : CtlPost} {d : Bool} {acts : List Action} {S : State} {cA cB c0 : ClassId} {kA kB : Class} {ty : FieldType} {n k : Int32} {N M : Nat} {Qa : Addr → Pre} (hkA : S.vm.classes[cA]? = some kA) (hkindA : kA.kind = .array cB (.array ty)) (hkB : S.vm.classes[cB]? = some kB) (hkindB : kB.kind = .array c0 ty)
    (hn : ¬ n < 0) (hN : n.toNatClampNeg = N) (hk : ¬ k < 0) (hM : k.toNatClampNeg = M) (h1 : ¬ N > e.platform.arrayLengthLimit) (h2 : ¬ N * componentBytes (.array ty) > e.platform.maxHeapBytes) (h3 : ¬ M > e.platform.arrayLengthLimit) (h4 : ¬ M * componentBytes ty > e.platform.maxHeapBytes) (hf : fits ty (defaultValue ty) = true)
    (hc : S.heap.size + (1 + N) ≤ e.platform.maxCells) (hs : S.slotsUsed + (N + N * M) ≤ e.platform.maxSlots) (hq : ∀ d' acts', Qa S.heap.size d' acts' (sx_gr S cA cB N M (defaultValue ty) N)) : wp (multianewarray.make cA [n, k]) Qa E e d acts S := by
  have hfind : ([k].find? (· < 0)) = none := by simp [hk]
  rw [multianewarray.make]
  simp only [wp_bind', W.ite, hn, if_false, wp_pure', W.theClass, hkA, hkindA, Option.some.injEq, exists_eq_left', hN]
  refine sx_wpNew hkA hkindA h1 h2 (by omega) (by omega) rfl (fun acts1 => ?_)
  simp only [hfind]
  rw [ite_self, wp_bind', Std.Legacy.Range.forIn_eq_forIn_range']
  have hsz : ([:N] : Std.Legacy.Range).size = N := by simp [Std.Legacy.Range.size]
  rw [hsz]
  show wp (forIn (List.range' 0 N 1) PUnit.unit _) _ E e d acts1 _
  have e0 : S.pushCell (arrV cA N (fun _ => .null)) = sx_gr S cA cB N M (defaultValue ty) 0 := by
    show _ = S.pushCell (arrV cA N _)
    congr 2
  rw [e0]
  refine wp_forIn_inv (fun todo S' => ∃ i, i ≤ N ∧ todo = List.range' i (N - i) ∧ S' = sx_gr S cA cB N M (defaultValue ty) i) _ _ ⟨0, Nat.zero_le _, by rw [Nat.sub_zero], rfl⟩ ?_ ?_
  · rintro x todo S' d' acts' Q' ⟨i, hi, hl, rfl⟩ hnext
    have hlt : i < N := by
      rcases Nat.lt_or_ge i N with h | h
      · exact h
      · rw [Nat.sub_eq_zero_of_le h] at hl; cases hl
    have hl2 : N - i = (N - (i + 1)) + 1 := by omega
    rw [hl2, List.range'_succ] at hl
    obtain ⟨rfl, hl3⟩ := List.cons.inj hl
    obtain ⟨g1, g2, g3, g4, -⟩ := sx_gr_ok S cA cB N M (defaultValue ty) x
    have hmul : x * M + M ≤ N * M := by
      have := Nat.mul_le_mul_right M (show x + 1 ≤ N from hlt)
      rw [Nat.succ_mul] at this
      exact this
    rw [wp_bind', multianewarray.make]
    simp only [wp_bind', W.ite, hk, if_false, wp_pure', W.theClass, g3, hkB, hkindB, Option.some.injEq, exists_eq_left', hM]
    refine sx_wpNew (by rw [g3]; exact hkB) hkindB h3 h4 (by rw [g1]; omega) (by rw [g4]; omega) hf (fun acts2 => ?_)
    rw [wp_bind', W.writeLoc]
    refine ⟨sx_out cA N S.heap.size x, by rw [State.heap_pushCell_of_lt _ _ (show S.heap.size < (sx_gr S cA cB N M (defaultValue ty) x).heap.size by rw [g1]; omega)]; exact g2, (fun h => by cases h), by rw [show (sx_out cA N S.heap.size x).slots.size = N from arrV_size _ _ _]; exact hlt, ?_, hnext _ _ _ ⟨x + 1, hlt, hl3, ?_⟩⟩
    · show State.fitsSlot _ cA .none x _ = true
      simp [State.fitsSlot, State.slotType?, g3, hkA, hkindA, sx_refFits (t := .array ty) rfl (Or.inr ⟨_, rfl⟩)]
    · rw [g1, sx_out_set]; rfl
  · rintro S' d' acts' ⟨i, hi, hl, rfl⟩
    have e1 : i = N := by
      rcases Nat.lt_or_ge i N with h | h
      · rw [show N - i = (N - (i + 1)) + 1 by omega, List.range'_succ] at hl; cases hl
      · omega
    subst e1
    exact hq _ _
theorem sx_multi0 (C0 : sx_C p s m c cc nL own G) {cA cB c0 : ClassId} {ty : FieldType} {nm : String} {idx N M : Nat} (hA : ∃ k : Class, s.vm.classes[cA]? = some k ∧ k.kind = .array cB (.array ty)) (hB : ∃ k : Class, s.vm.classes[cB]? = some k ∧ k.kind = .array c0 ty) (hl : Jvm.Cond.classLink own idx nm ∈ lw_tbl) (hnm : s.vm.findClass nm = some cA) (hf : fits ty (defaultValue ty) = true)
    (hN : N * 4 ≤ 536870912) (hM : M * componentBytes ty ≤ 536870912) (hM1 : M ≤ 536870912) (hcells : cells + (1 + N) ≤ R.cells) (hslots : slots + (N + N * M) ≤ R.slots) (hdg : decode cc pc = .ok (.multianewarray idx 2, 4))
    (kk : ∀ (H1 : Heap) (locs1 : List Loc), H1.size = H.size + 1 + N → H1[H.size]? = some (sx_out cA N H.size N) → (∀ j, j < N → H1[H.size + 1 + j]? = some (arrV cB M (fun _ => defaultValue ty))) → (∀ q, q < H.size → H1[q]? = H[q]?) → (∀ x ∈ locs1, x ∈ locs ∨ x.base = H.size) → W p l e R s m args below meth c H1 locs1 (cells + 1 + N) (slots + N + N * M) Q (F0 m (pc + 4) ls (.ref H.size :: rest))) : W p l e R s m args below meth c H locs cells slots Q (F0 m pc ls (.int (nI M) :: .int (nI N) :: rest)) := by
  intro T hT X
  subst hT
  have hpl : e.platform.magicAccessors = ({} : Platform).magicAccessors := by rw [X.admits.platform]
  obtain ⟨c1, hfc, hcl⟩ := Jvm.Cond.classLink_spec C0.2.2.2.1 (C0.2.2.2.2.1.use hl (Or.inl rfl) args) e.platform hpl
  cases hnm.symm.trans hfc
  obtain ⟨hg1, hw1, -⟩ := State.classEntry (e := e) X.warmed hcl
  generalize T.vm.noted m.cls idx (.cls cA) = vm1 at hg1 hw1
  obtain ⟨kA, hkA, hkindA⟩ := sx_kind (U := T.setVm vm1) hw1.alike hA
  obtain ⟨kB, hkB, hkindB⟩ := sx_kind (U := T.setVm vm1) hw1.alike hB
  obtain ⟨hr1, hr2⟩ := X.roomAbove hcells hslots
  have XF := sx_gr_stand (X.noted hw1) cA cB N M (defaultValue ty) N
  obtain ⟨g1, g2, g3, g4, g5, g6⟩ := sx_gr_ok (T.setVm vm1) cA cB N M (defaultValue ty) N
  obtain ⟨t, b1, b2⟩ := kk _ _ g1 g2 g6 g5 (fun x hx => by
    rcases List.mem_append.mp hx with h | h
    · exact Or.inl h
    · obtain ⟨j, -, rfl⟩ := List.mem_map.mp h
      exact Or.inr rfl) _ rfl XF
  refine ⟨t, ?_, b2⟩
  have hdg' : decode c.code pc = .ok (.multianewarray idx 2, 4) := by rw [C0.2.1]; exact hdg
  jvm_step X.here [C0.1, hdg']
  simp only [multianewarray.sem, wp_bind', W.resolveClassAt_links (State.method?_setTop (F0 m pc ls (.int (nI M) :: .int (nI N) :: rest)) X.here.top) hg1]
  rw [W.popN, if_neg (by decide)]
  refine ⟨F0 m pc ls (.int (nI M) :: .int (nI N) :: rest), State.topJava?_setTop' (s := T.setVm vm1) _ X.here.top, [.int (nI N), .int (nI M)], rest, rfl, rfl, ?_⟩
  simp only [List.mapM_cons, List.mapM_nil, wp_bind', wp_pure']
  refine sx_wpMake (kA := kA) (kB := kB) (cB := cB) (c0 := c0) (ty := ty) (N := N) (M := M) hkA hkindA hkB hkindB (nI_pos (by omega)) (nI_clamp (by omega)) (nI_pos (by omega)) (nI_clamp (by omega)) (by rw [Launch.admits_arrayLengthLimit X.admits]; omega) (by rw [Launch.admits_maxHeapBytes X.admits]; show ¬ N * 4 > _; omega) (by rw [Launch.admits_arrayLengthLimit X.admits]; omega) (by rw [Launch.admits_maxHeapBytes X.admits]; omega) hf (by show T.heap.size + _ ≤ _; omega) (by show T.slotsUsed + _ ≤ _; omega) (fun d' acts' => ?_)
  have eS : ((T.setTop (F0 m pc ls (.int (nI M) :: .int (nI N) :: rest))).setVm vm1).setTop (F0 m pc ls rest) = (T.setVm vm1).setTop (F0 m pc ls rest) := by
    show ((T.setVm vm1).setTop _).setTop _ = _
    rw [State.setTop_setTop]
  rw [eS, sx_gr_top]
  simp only [wp_bind', W.mark, W.pushRef, State.topJava?_setTop' _ XF.here.top, Option.some.injEq, exists_eq_left', State.setTop_setTop, State.heap_setTop]
  intro acts
  simp [jvm, XF.here.top]
  exact b1
end SXM
end
section
/-! the worlds; the sites of the calls -/
abbrev wST (G : sx_G) (ad : Nat → Nat) (qc qb : Nat) (V F : Nat → Int64) (T L : Nat → Int32) (tc n : Nat) (CH : Nat → Int32) (BE : Nat → Int64) (cd : Nat) (rf : Int32) : va_W :=
  [(ad 1, .inr (1, [.ref (ad 5), .ref (ad 6), .ref (ad 7), .ref (ad 8), .int (nI tc), .ref qc, .ref qb, .int (nI cd), .int rf])), (ad 5, .inl (G.2 1, 256, .inr (.inl V))), (ad 6, .inl (G.2 1, 256, .inr (.inl F))), (ad 7, .inl (G.2 2, 256, .inl T)), (ad 8, .inl (G.2 0, 256, .inl L)), (qc, .inl (G.2 0, n, .inl CH)), (qb, .inl (G.2 1, n, .inr (.inl BE)))]
abbrev wS4 (G : sx_G) (ad : Nat → Nat) (C1 C2 C3 : Nat → Int32) (dp : Nat) : va_W :=
  [(ad 0, .inr (0, [.ref (ad 1), .ref (ad 2), .ref (ad 3), .ref (ad 4), .int (nI dp)])), (ad 2, .inl (G.2 0, 30, .inl C1)), (ad 3, .inl (G.2 0, 30, .inl C2)), (ad 4, .inl (G.2 0, 30, .inl C3))]
abbrev wSC (G : sx_G) (ad : Nat → Nat) (qc qb : Nat) (V F : Nat → Int64) (T L : Nat → Int32) (tc n : Nat) (CH : Nat → Int32) (BE : Nat → Int64) (cd : Nat) (rf : Int32) (C1 C2 C3 : Nat → Int32) (dp : Nat) : va_W :=
  wS4 G ad C1 C2 C3 dp ++ wST G ad qc qb V F T L tc n CH BE cd rf
abbrev wM4 (G : sx_G) (md : Nat → Nat) (fl : Int32) (V F : Nat → Int64) (T : Nat → Int32) (rf : Int32) (dp : Nat) : va_W :=
  [(md 0, .inr (2, [.int fl, .ref (md 1), .ref (md 2), .ref (md 3), .ref (md 4), .ref (md 5), .ref (md 6), .int rf, .int (nI dp)])), (md 4, .inl (G.2 1, 256, .inr (.inl V))), (md 5, .inl (G.2 1, 256, .inr (.inl F))), (md 6, .inl (G.2 2, 256, .inl T))]
abbrev wMg (G : sx_G) (md : Nat → Nat) (KR : Nat → Int32) : va_W :=
  [(md 1, .inl (G.2 3, 31, .inr (.inr (.inr (.inr (fun i => some (md 1 + 1 + i))))))), (md 2, .inl (G.2 4, 31, .inr (.inr (.inr (.inr (fun i => some (md 2 + 1 + i))))))), (md 3, .inl (G.2 0, 31, .inl KR))]
def wMr (G : sx_G) (md : Nat → Nat) (K : Nat → Nat → Int64) (KT : Nat → Nat → Int32) : va_W :=
  (List.range 31).map (fun i => (md 1 + 1 + i, .inl (G.2 1, 256, .inr (.inl (K i))))) ++ (List.range 31).map (fun i => (md 2 + 1 + i, .inl (G.2 2, 256, .inl (KT i))))
abbrev wO (G : sx_G) (o : Nat) (f : Nat → Int64) : va_W := [(o, .inl (G.2 1, 1, .inr (.inl f)))]
theorem q_LW_43 : sx_site sx_LW 43 y_SC_init w_SC_init 0 := ⟨sx_tb (i := 16) rfl, sx_tb (i := 5) rfl, m_SC_init, ⟨by decide +kernel, by decide +kernel⟩, by decide +kernel⟩
theorem i_SC_init : Jvm.Cond.instanceMethod y_SC_init ∈ lw_tbl := sx_tb (i := 17) rfl
theorem q_SC_9 : sx_siteN sx_SC 9 y_ST_init sx_SC w_ST_init 0 := ⟨sx_tb (i := 24) rfl, sx_tb (i := 6) rfl, m_ST_init, ⟨by decide +kernel, by decide +kernel⟩, by decide +kernel⟩
theorem i_ST_init : Jvm.Cond.instanceMethod y_ST_init ∈ lw_tbl := sx_tb (i := 25) rfl
theorem q_LW_47 : sx_site sx_LW 47 y_SC_begin w_SC_begin 0 := ⟨sx_tb (i := 75) rfl, sx_tb (i := 5) rfl, m_SC_begin, ⟨by decide +kernel, by decide +kernel⟩, by decide +kernel⟩
theorem i_SC_begin : sx_inst y_SC_begin := ⟨sx_tb (i := 76) rfl, sx_tb (i := 77) rfl⟩
theorem q_SC_29 : sx_site sx_SC 29 y_ST_begin w_ST_begin 0 := ⟨sx_tb (i := 79) rfl, sx_tb (i := 6) rfl, m_ST_begin, ⟨by decide +kernel, by decide +kernel⟩, by decide +kernel⟩
theorem i_ST_begin : sx_inst y_ST_begin := ⟨sx_tb (i := 80) rfl, sx_tb (i := 81) rfl⟩
theorem q_ST_42 : sx_site sx_ST 42 y_ST_back w_ST_back 3 := ⟨sx_tb (i := 83) rfl, sx_tb (i := 6) rfl, m_ST_back, ⟨by decide +kernel, by decide +kernel⟩, by decide +kernel⟩
theorem i_ST_back : sx_inst y_ST_back := ⟨sx_tb (i := 84) rfl, sx_tb (i := 85) rfl⟩
theorem q_SC_36 : sx_site sx_SC 36 y_ST_some w_ST_some 0 := ⟨sx_tb (i := 87) rfl, sx_tb (i := 6) rfl, m_ST_some, ⟨by decide +kernel, by decide +kernel⟩, by decide +kernel⟩
theorem i_ST_some : sx_inst y_ST_some := ⟨sx_tb (i := 88) rfl, sx_tb (i := 89) rfl⟩
theorem q_LW_51 : sx_site sx_LW 51 y_LW_open w_LW_open 2 := ⟨sx_tb (i := 91) rfl, sx_tb (i := 4) rfl, m_LW_open, ⟨by decide +kernel, by decide +kernel⟩, by decide +kernel⟩
theorem i_LW_open : Jvm.Cond.static y_LW_open ∈ lw_tbl := sx_tb (i := 92) rfl
theorem q_LW_7 : sx_site sx_LW 7 y_SC_open w_SC_open 0 := ⟨sx_tb (i := 95) rfl, sx_tb (i := 5) rfl, m_SC_open, ⟨by decide +kernel, by decide +kernel⟩, by decide +kernel⟩
theorem i_SC_open : sx_inst y_SC_open := ⟨sx_tb (i := 96) rfl, sx_tb (i := 97) rfl⟩
theorem q_SC_43 : sx_site sx_SC 43 y_ST_changed w_ST_changed 0 := ⟨sx_tb (i := 162) rfl, sx_tb (i := 6) rfl, m_ST_changed, ⟨by decide +kernel, by decide +kernel⟩, by decide +kernel⟩
theorem i_ST_changed : sx_inst y_ST_changed := ⟨sx_tb (i := 163) rfl, sx_tb (i := 164) rfl⟩
theorem q_SC_46 : sx_site sx_SC 46 y_ST_touchedCount w_ST_touchedCount 0 := ⟨sx_tb (i := 166) rfl, sx_tb (i := 6) rfl, m_ST_touchedCount, ⟨by decide +kernel, by decide +kernel⟩, by decide +kernel⟩
theorem i_ST_touchedCount : sx_inst y_ST_touchedCount := ⟨sx_tb (i := 167) rfl, sx_tb (i := 168) rfl⟩
theorem q_SC_49 : sx_site sx_SC 49 y_ST_refund w_ST_refund 0 := ⟨sx_tb (i := 170) rfl, sx_tb (i := 6) rfl, m_ST_refund, ⟨by decide +kernel, by decide +kernel⟩, by decide +kernel⟩
theorem i_ST_refund : sx_inst y_ST_refund := ⟨sx_tb (i := 171) rfl, sx_tb (i := 172) rfl⟩
theorem q_LW_60 : sx_site sx_LW 60 y_LW_close w_LW_close 3 := ⟨sx_tb (i := 174) rfl, sx_tb (i := 4) rfl, m_LW_close, ⟨by decide +kernel, by decide +kernel⟩, by decide +kernel⟩
theorem i_LW_close : Jvm.Cond.static y_LW_close ∈ lw_tbl := sx_tb (i := 175) rfl
theorem q_LW_15 : sx_site sx_LW 15 y_SC_close w_SC_close 1 := ⟨sx_tb (i := 178) rfl, sx_tb (i := 5) rfl, m_SC_close, ⟨by decide +kernel, by decide +kernel⟩, by decide +kernel⟩
theorem i_SC_close : sx_inst y_SC_close := ⟨sx_tb (i := 179) rfl, sx_tb (i := 180) rfl⟩
theorem q_SC_55 : sx_site sx_SC 55 y_ST_back w_ST_back 3 := ⟨sx_tb (i := 197) rfl, sx_tb (i := 6) rfl, m_ST_back, ⟨by decide +kernel, by decide +kernel⟩, by decide +kernel⟩
theorem q_LW_64 : sx_site sx_LW 64 y_LW_load w_LW_load 4 := ⟨sx_tb (i := 198) rfl, sx_tb (i := 4) rfl, m_LW_load, ⟨by decide +kernel, by decide +kernel⟩, by decide +kernel⟩
theorem i_LW_load : Jvm.Cond.static y_LW_load ∈ lw_tbl := sx_tb (i := 199) rfl
theorem q_LW_21 : sx_site sx_LW 21 y_SC_load w_SC_load 2 := ⟨sx_tb (i := 202) rfl, sx_tb (i := 5) rfl, m_SC_load, ⟨by decide +kernel, by decide +kernel⟩, by decide +kernel⟩
theorem i_SC_load : sx_inst y_SC_load := ⟨sx_tb (i := 203) rfl, sx_tb (i := 204) rfl⟩
theorem q_SC_59 : sx_site sx_SC 59 y_SC_place w_SC_place 2 := ⟨sx_tb (i := 206) rfl, sx_tb (i := 5) rfl, m_SC_place, ⟨by decide +kernel, by decide +kernel⟩, by decide +kernel⟩
theorem i_SC_place : Jvm.Cond.static y_SC_place ∈ lw_tbl := sx_tb (i := 207) rfl
theorem q_SC_63 : sx_site sx_SC 63 y_ST_touch w_ST_touch 1 := ⟨sx_tb (i := 224) rfl, sx_tb (i := 6) rfl, m_ST_touch, ⟨by decide +kernel, by decide +kernel⟩, by decide +kernel⟩
theorem i_ST_touch : sx_inst y_ST_touch := ⟨sx_tb (i := 225) rfl, sx_tb (i := 226) rfl⟩
theorem q_LW_70 : sx_site sx_LW 70 y_LW_store w_LW_store 6 := ⟨sx_tb (i := 228) rfl, sx_tb (i := 4) rfl, m_LW_store, ⟨by decide +kernel, by decide +kernel⟩, by decide +kernel⟩
theorem i_LW_store : Jvm.Cond.static y_LW_store ∈ lw_tbl := sx_tb (i := 229) rfl
theorem q_LW_27 : sx_site sx_LW 27 y_SC_store w_SC_store 4 := ⟨sx_tb (i := 231) rfl, sx_tb (i := 5) rfl, m_SC_store, ⟨by decide +kernel, by decide +kernel⟩, by decide +kernel⟩
theorem i_SC_store : sx_inst y_SC_store := ⟨sx_tb (i := 232) rfl, sx_tb (i := 233) rfl⟩
theorem q_SC_67 : sx_site sx_SC 67 y_ST_cost w_ST_cost 2 := ⟨sx_tb (i := 235) rfl, sx_tb (i := 6) rfl, m_ST_cost, ⟨by decide +kernel, by decide +kernel⟩, by decide +kernel⟩
theorem i_ST_cost : sx_inst y_ST_cost := ⟨sx_tb (i := 236) rfl, sx_tb (i := 237) rfl⟩
theorem q_SC_71 : sx_site sx_SC 71 y_ST_store w_ST_store 2 := ⟨sx_tb (i := 239) rfl, sx_tb (i := 6) rfl, m_ST_store, ⟨by decide +kernel, by decide +kernel⟩, by decide +kernel⟩
theorem i_ST_store : sx_inst y_ST_store := ⟨sx_tb (i := 240) rfl, sx_tb (i := 241) rfl⟩
theorem q_ST_46 : sx_site sx_ST 46 y_ST_given w_ST_given 3 := ⟨sx_tb (i := 243) rfl, sx_tb (i := 6) rfl, m_ST_given, ⟨by decide +kernel, by decide +kernel⟩, by decide +kernel⟩
theorem i_ST_given : Jvm.Cond.static y_ST_given ∈ lw_tbl := sx_tb (i := 244) rfl
theorem q_ST_50 : sx_siteN sx_ST 50 y_SC_longerI sx_SC w_SC_longerI 1 := ⟨sx_tb (i := 246) rfl, sx_tb (i := 5) rfl, m_SC_longerI, ⟨by decide +kernel, by decide +kernel⟩, by decide +kernel⟩
theorem i_SC_longerI : Jvm.Cond.static y_SC_longerI ∈ lw_tbl := sx_tb (i := 247) rfl
theorem q_ST_54 : sx_siteN sx_ST 54 y_SC_longerJ sx_SC w_SC_longerJ 1 := ⟨sx_tb (i := 249) rfl, sx_tb (i := 5) rfl, m_SC_longerJ, ⟨by decide +kernel, by decide +kernel⟩, by decide +kernel⟩
theorem i_SC_longerJ : Jvm.Cond.static y_SC_longerJ ∈ lw_tbl := sx_tb (i := 250) rfl
theorem q_LW_74 : sx_site sx_LW 74 y_LW_held w_LW_held 5 := ⟨sx_tb (i := 252) rfl, sx_tb (i := 4) rfl, m_LW_held, ⟨by decide +kernel, by decide +kernel⟩, by decide +kernel⟩
theorem i_LW_held : Jvm.Cond.static y_LW_held ∈ lw_tbl := sx_tb (i := 253) rfl
theorem q_LW_31 : sx_site sx_LW 31 y_SC_held w_SC_held 3 := ⟨sx_tb (i := 255) rfl, sx_tb (i := 5) rfl, m_SC_held, ⟨by decide +kernel, by decide +kernel⟩, by decide +kernel⟩
theorem i_SC_held : sx_inst y_SC_held := ⟨sx_tb (i := 256) rfl, sx_tb (i := 257) rfl⟩
theorem q_SC_75 : sx_site sx_SC 75 y_ST_first w_ST_first 1 := ⟨sx_tb (i := 259) rfl, sx_tb (i := 6) rfl, m_ST_first, ⟨by decide +kernel, by decide +kernel⟩, by decide +kernel⟩
theorem i_ST_first : sx_inst y_ST_first := ⟨sx_tb (i := 260) rfl, sx_tb (i := 261) rfl⟩
theorem q_SC_79 : sx_site sx_SC 79 y_ST_value w_ST_value 1 := ⟨sx_tb (i := 263) rfl, sx_tb (i := 6) rfl, m_ST_value, ⟨by decide +kernel, by decide +kernel⟩, by decide +kernel⟩
theorem i_ST_value : sx_inst y_ST_value := ⟨sx_tb (i := 264) rfl, sx_tb (i := 265) rfl⟩
theorem q_LW_78 : sx_site sx_LW 78 y_LW_touched w_LW_touched 4 := ⟨sx_tb (i := 267) rfl, sx_tb (i := 4) rfl, m_LW_touched, ⟨by decide +kernel, by decide +kernel⟩, by decide +kernel⟩
theorem i_LW_touched : Jvm.Cond.static y_LW_touched ∈ lw_tbl := sx_tb (i := 268) rfl
theorem q_LW_35 : sx_site sx_LW 35 y_SC_touched w_SC_touched 2 := ⟨sx_tb (i := 270) rfl, sx_tb (i := 5) rfl, m_SC_touched, ⟨by decide +kernel, by decide +kernel⟩, by decide +kernel⟩
theorem i_SC_touched : sx_inst y_SC_touched := ⟨sx_tb (i := 271) rfl, sx_tb (i := 272) rfl⟩
theorem q_SC_82 : sx_site sx_SC 82 y_ST_isTouched w_ST_isTouched 1 := ⟨sx_tb (i := 274) rfl, sx_tb (i := 6) rfl, m_ST_isTouched, ⟨by decide +kernel, by decide +kernel⟩, by decide +kernel⟩
theorem i_ST_isTouched : sx_inst y_ST_isTouched := ⟨sx_tb (i := 275) rfl, sx_tb (i := 276) rfl⟩
theorem q_LW_81 : sx_site sx_LW 81 y_LW_count w_LW_count 3 := ⟨sx_tb (i := 278) rfl, sx_tb (i := 4) rfl, m_LW_count, ⟨by decide +kernel, by decide +kernel⟩, by decide +kernel⟩
theorem i_LW_count : Jvm.Cond.static y_LW_count ∈ lw_tbl := sx_tb (i := 279) rfl
theorem q_LW_39 : sx_site sx_LW 39 y_SC_count w_SC_count 1 := ⟨sx_tb (i := 281) rfl, sx_tb (i := 5) rfl, m_SC_count, ⟨by decide +kernel, by decide +kernel⟩, by decide +kernel⟩
theorem i_SC_count : sx_inst y_SC_count := ⟨sx_tb (i := 282) rfl, sx_tb (i := 283) rfl⟩
theorem q_LW_46 : sx_site sx_LW 46 y_MD_init w_MD_init 0 := ⟨sx_tb (i := 287) rfl, sx_tb (i := 7) rfl, m_MD_init, ⟨by decide +kernel, by decide +kernel⟩, by decide +kernel⟩
theorem i_MD_init : Jvm.Cond.instanceMethod y_MD_init ∈ lw_tbl := sx_tb (i := 288) rfl
theorem q_LW_57 : sx_site sx_LW 57 y_MD_thrown w_MD_thrown 0 := ⟨sx_tb (i := 323) rfl, sx_tb (i := 7) rfl, m_MD_thrown, ⟨by decide +kernel, by decide +kernel⟩, by decide +kernel⟩
theorem i_MD_thrown : sx_inst y_MD_thrown := ⟨sx_tb (i := 324) rfl, sx_tb (i := 325) rfl⟩
theorem q_LW_50 : sx_site sx_LW 50 y_MD_begin w_MD_begin 0 := ⟨sx_tb (i := 327) rfl, sx_tb (i := 7) rfl, m_MD_begin, ⟨by decide +kernel, by decide +kernel⟩, by decide +kernel⟩
theorem i_MD_begin : sx_inst y_MD_begin := ⟨sx_tb (i := 328) rfl, sx_tb (i := 329) rfl⟩
theorem q_MD_44 : sx_site sx_MD 44 y_MD_filled w_MD_filled 0 := ⟨sx_tb (i := 331) rfl, sx_tb (i := 7) rfl, m_MD_filled, ⟨by decide +kernel, by decide +kernel⟩, by decide +kernel⟩
theorem i_MD_filled : sx_inst y_MD_filled := ⟨sx_tb (i := 333) rfl, sx_tb (i := 1) rfl⟩
theorem q_LW_56 : sx_site sx_LW 56 y_MD_open w_MD_open 0 := ⟨sx_tb (i := 335) rfl, sx_tb (i := 7) rfl, m_MD_open, ⟨by decide +kernel, by decide +kernel⟩, by decide +kernel⟩
theorem i_MD_open : sx_inst y_MD_open := ⟨sx_tb (i := 336) rfl, sx_tb (i := 337) rfl⟩
theorem q_MD_48 : sx_site sx_MD 48 y_MD_fail w_MD_fail 1 := ⟨sx_tb (i := 339) rfl, sx_tb (i := 7) rfl, m_MD_fail, ⟨by decide +kernel, by decide +kernel⟩, by decide +kernel⟩
theorem i_MD_fail : sx_inst y_MD_fail := ⟨sx_tb (i := 341) rfl, sx_tb (i := 2) rfl⟩
theorem q_LW_63 : sx_site sx_LW 63 y_MD_close w_MD_close 1 := ⟨sx_tb (i := 343) rfl, sx_tb (i := 7) rfl, m_MD_close, ⟨by decide +kernel, by decide +kernel⟩, by decide +kernel⟩
theorem i_MD_close : sx_inst y_MD_close := ⟨sx_tb (i := 344) rfl, sx_tb (i := 345) rfl⟩
theorem q_LW_67 : sx_site sx_LW 67 y_MD_load w_MD_load 2 := ⟨sx_tb (i := 347) rfl, sx_tb (i := 7) rfl, m_MD_load, ⟨by decide +kernel, by decide +kernel⟩, by decide +kernel⟩
theorem i_MD_load : sx_inst y_MD_load := ⟨sx_tb (i := 348) rfl, sx_tb (i := 349) rfl⟩
theorem q_MD_52 : sx_site sx_MD 52 y_MD_out w_MD_out 2 := ⟨sx_tb (i := 351) rfl, sx_tb (i := 7) rfl, m_MD_out, ⟨by decide +kernel, by decide +kernel⟩, by decide +kernel⟩
theorem i_MD_out : sx_inst y_MD_out := ⟨sx_tb (i := 353) rfl, sx_tb (i := 3) rfl⟩
theorem q_LW_73 : sx_site sx_LW 73 y_MD_store w_MD_store 4 := ⟨sx_tb (i := 355) rfl, sx_tb (i := 7) rfl, m_MD_store, ⟨by decide +kernel, by decide +kernel⟩, by decide +kernel⟩
theorem i_MD_store : sx_inst y_MD_store := ⟨sx_tb (i := 356) rfl, sx_tb (i := 357) rfl⟩
theorem q_LW_77 : sx_site sx_LW 77 y_MD_held w_MD_held 3 := ⟨sx_tb (i := 359) rfl, sx_tb (i := 7) rfl, m_MD_held, ⟨by decide +kernel, by decide +kernel⟩, by decide +kernel⟩
theorem i_MD_held : sx_inst y_MD_held := ⟨sx_tb (i := 360) rfl, sx_tb (i := 361) rfl⟩
theorem q_LW_80 : sx_site sx_LW 80 y_MD_touched w_MD_touched 2 := ⟨sx_tb (i := 363) rfl, sx_tb (i := 7) rfl, m_MD_touched, ⟨by decide +kernel, by decide +kernel⟩, by decide +kernel⟩
theorem i_MD_touched : sx_inst y_MD_touched := ⟨sx_tb (i := 364) rfl, sx_tb (i := 365) rfl⟩
theorem q_LW_84 : sx_site sx_LW 84 y_MD_count w_MD_count 1 := ⟨sx_tb (i := 367) rfl, sx_tb (i := 7) rfl, m_MD_count, ⟨by decide +kernel, by decide +kernel⟩, by decide +kernel⟩
theorem i_MD_count : sx_inst y_MD_count := ⟨sx_tb (i := 368) rfl, sx_tb (i := 369) rfl⟩
theorem sx_ac_long : Jvm.Cond.arrayClass .long ∈ lw_tbl := sx_tb (i := 56) rfl
theorem sx_ac_boolean : Jvm.Cond.arrayClass .boolean ∈ lw_tbl := sx_tb (i := 57) rfl
theorem sx_ac_int : Jvm.Cond.arrayClass .int ∈ lw_tbl := sx_tb (i := 58) rfl
theorem sx_ra_prim {s : State} {ty : FieldType} (h : ty = .int ∨ ty = .long ∨ ty = .boolean) (cA cT : ClassId) (h1 : va_RA s cA ty) (h2 : va_RA s cT ty) : cA = cT := by
  rcases h with rfl | rfl | rfl <;> exact Option.some.inj (h1.symm.trans h2)
end
section
/-! Storage: the methods that change nothing -/
theorem sx_cmp0 (x y : Int64) : lg_cmp x y = 0 ↔ x = y := by
  unfold lg_cmp
  by_cases h1 : x > y
  · rw [if_pos h1]
    constructor
    · intro h; exact absurd h (by decide)
    · rintro rfl; exact absurd h1 (Int64.lt_irrefl)
  · rw [if_neg h1]
    by_cases h2 : x = y
    · rw [if_pos h2]; exact ⟨fun _ => h2, fun _ => rfl⟩
    · rw [if_neg h2]
      constructor
      · intro h; exact absurd h (by decide)
      · intro h; exact absurd h h2
section SXL
variable {p : Program} {l : Launch} {e : Env} {R : Room} {s : State} {m : MethodId} {args : Array Value} {below : List Frame} {meth : Method} {c : Code} {H : Heap} {locs : List Loc} {cells slots : Nat} {Q : State → Prop} {cc : ByteArray} {nL : Nat} {own : String} {G : sx_G} {pc : Nat} {ls : Array Slot} {rest : List Value}
theorem sx_lifeq (C0 : sx_C p s m c cc nL own G) {x y : Int64} {off : Int} {tgt : Nat} (hd1 : decode cc pc = .ok (.lcmp, 1)) (hd2 : decode cc (pc + 1) = .ok (.ifCond .eq off, 3)) (ht : ((pc + 1 : Nat) : Int) + off = (tgt : Int)) (kt : x = y → W p l e R s m args below meth c H locs cells slots Q (F0 m tgt ls rest)) (kf : ¬ x = y → W p l e R s m args below meth c H locs cells slots Q (F0 m (pc + 1 + 3) ls rest)) : W p l e R s m args below meth c H locs cells slots Q (F0 m pc ls (.long y :: .long x :: rest)) := by
  refine W.lcmp C0.1 C0.2.1 hd1 ?_
  exact lv_if_eq C0.1 C0.2.1 hd2 ht (fun h => kt ((sx_cmp0 x y).mp h)) (fun h => kf (fun z => h ((sx_cmp0 x y).mpr z)))
theorem sx_lifne (C0 : sx_C p s m c cc nL own G) {x y : Int64} {off : Int} {tgt : Nat} (hd1 : decode cc pc = .ok (.lcmp, 1)) (hd2 : decode cc (pc + 1) = .ok (.ifCond .ne off, 3)) (ht : ((pc + 1 : Nat) : Int) + off = (tgt : Int)) (kt : ¬ x = y → W p l e R s m args below meth c H locs cells slots Q (F0 m tgt ls rest)) (kf : x = y → W p l e R s m args below meth c H locs cells slots Q (F0 m (pc + 1 + 3) ls rest)) : W p l e R s m args below meth c H locs cells slots Q (F0 m pc ls (.long y :: .long x :: rest)) := by
  refine W.lcmp C0.1 C0.2.1 hd1 ?_
  exact lv_if_ne C0.1 C0.2.1 hd2 ht (fun h => kt (fun z => h ((sx_cmp0 x y).mpr z))) (fun h => kf ((sx_cmp0 x y).mp h))
end SXL
section ST1
variable {l : Launch} {G : sx_G} {ad : Nat → Nat} {qc qb : Nat} {V F : Nat → Int64} {T L : Nat → Int32} {tc n : Nat} {CH : Nat → Int32} {BE : Nat → Int64} {cd : Nat} {rf : Int32}
theorem c_ST_value {x : Nat} (hX : x < 256) : sx_CtrP l y_ST_value w_ST_value 0 0 G [.ref (ad 1), .int (nI x)] (wST G ad qc qb V F T L tc n CH BE cd rf) (.long (V x)) := by
  refine sx_CtrP.of (by decide +kernel) (Nat.le_of_ble_eq_true rfl) ?_
  intro p e s m below meth c ls C0 hr hlk hl hP
  have C0 : sx_C p s m c b_ST_value 2 sx_ST G := C0
  have hx := C0.1
  have hb := C0.2.1
  have hl : lv_has ls 2 [(0, .ref (ad 1)), (1, .int (nI x))] := hl
  refine lv_aload_n hx hb d_ST_value_0 rfl (lv_at hl 0 rfl) ?_
  refine sx_get C0 hP 0 rfl rfl 0 (by decide) f_ST_9 rfl rfl d_ST_value_1 ?_
  refine lv_iload_n hx hb d_ST_value_4 rfl (lv_at hl 1 rfl) ?_
  refine sx_lald (i := x) (v := V x) C0 hP 1 rfl rfl hX (by decide) rfl d_ST_value_5 ?_
  exact sx_lretP C0 hr hlk d_ST_value_6
theorem c_ST_first {x : Nat} (hX : x < 256) : sx_CtrP l y_ST_first w_ST_first 0 0 G [.ref (ad 1), .int (nI x)] (wST G ad qc qb V F T L tc n CH BE cd rf) (.long (F x)) := by
  refine sx_CtrP.of (by decide +kernel) (Nat.le_of_ble_eq_true rfl) ?_
  intro p e s m below meth c ls C0 hr hlk hl hP
  have C0 : sx_C p s m c b_ST_first 2 sx_ST G := C0
  have hx := C0.1
  have hb := C0.2.1
  have hl : lv_has ls 2 [(0, .ref (ad 1)), (1, .int (nI x))] := hl
  refine lv_aload_n hx hb d_ST_first_0 rfl (lv_at hl 0 rfl) ?_
  refine sx_get C0 hP 0 rfl rfl 1 (by decide) f_ST_15 rfl rfl d_ST_first_1 ?_
  refine lv_iload_n hx hb d_ST_first_4 rfl (lv_at hl 1 rfl) ?_
  refine sx_lald (i := x) (v := F x) C0 hP 2 rfl rfl hX (by decide) rfl d_ST_first_5 ?_
  exact sx_lretP C0 hr hlk d_ST_first_6
theorem c_ST_isTouched {x : Nat} (hX : x < 256) (hb1 : narrow .boolean (.int (T x)) = .int (T x)) : sx_CtrP l y_ST_isTouched w_ST_isTouched 0 0 G [.ref (ad 1), .int (nI x)] (wST G ad qc qb V F T L tc n CH BE cd rf) (.int (T x)) := by
  refine sx_CtrP.of (by decide +kernel) (Nat.le_of_ble_eq_true rfl) ?_
  intro p e s m below meth c ls C0 hr hlk hl hP
  have C0 : sx_C p s m c b_ST_isTouched 2 sx_ST G := C0
  have hx := C0.1
  have hb := C0.2.1
  have hl : lv_has ls 2 [(0, .ref (ad 1)), (1, .int (nI x))] := hl
  refine lv_aload_n hx hb d_ST_isTouched_0 rfl (lv_at hl 0 rfl) ?_
  refine sx_get C0 hP 0 rfl rfl 2 (by decide) f_ST_18 rfl rfl d_ST_isTouched_1 ?_
  refine lv_iload_n hx hb d_ST_isTouched_4 rfl (lv_at hl 1 rfl) ?_
  refine sx_zald (i := x) (v := T x) C0 hP 3 rfl rfl hX (by decide) rfl d_ST_isTouched_5 ?_
  exact sx_zretP C0 hr hb1 hlk d_ST_isTouched_6
theorem c_ST_touchedCount : sx_CtrP l y_ST_touchedCount w_ST_touchedCount 0 0 G [.ref (ad 1)] (wST G ad qc qb V F T L tc n CH BE cd rf) (.int (nI tc)) := by
  refine sx_CtrP.of (by decide +kernel) (Nat.le_of_ble_eq_true rfl) ?_
  intro p e s m below meth c ls C0 hr hlk hl hP
  have C0 : sx_C p s m c b_ST_touchedCount 1 sx_ST G := C0
  have hx := C0.1
  have hb := C0.2.1
  have hl : lv_has ls 1 [(0, .ref (ad 1))] := hl
  refine lv_aload_n hx hb d_ST_touchedCount_0 rfl (lv_at hl 0 rfl) ?_
  refine sx_get C0 hP 0 rfl rfl 4 (by decide) f_ST_32 rfl rfl d_ST_touchedCount_1 ?_
  exact sx_iretP C0 hr hlk d_ST_touchedCount_4
theorem c_ST_refund : sx_CtrP l y_ST_refund w_ST_refund 0 0 G [.ref (ad 1)] (wST G ad qc qb V F T L tc n CH BE cd rf) (.int (rf)) := by
  refine sx_CtrP.of (by decide +kernel) (Nat.le_of_ble_eq_true rfl) ?_
  intro p e s m below meth c ls C0 hr hlk hl hP
  have C0 : sx_C p s m c b_ST_refund 1 sx_ST G := C0
  have hx := C0.1
  have hb := C0.2.1
  have hl : lv_has ls 1 [(0, .ref (ad 1))] := hl
  refine lv_aload_n hx hb d_ST_refund_0 rfl (lv_at hl 0 rfl) ?_
  refine sx_get C0 hP 0 rfl rfl 8 (by decide) f_ST_36 rfl rfl d_ST_refund_1 ?_
  exact sx_iretP C0 hr hlk d_ST_refund_4
theorem c_ST_changed : sx_CtrP l y_ST_changed w_ST_changed 0 0 G [.ref (ad 1)] (wST G ad qc qb V F T L tc n CH BE cd rf) (.int (nI cd)) := by
  refine sx_CtrP.of (by decide +kernel) (Nat.le_of_ble_eq_true rfl) ?_
  intro p e s m below meth c ls C0 hr hlk hl hP
  have C0 : sx_C p s m c b_ST_changed 1 sx_ST G := C0
  have hx := C0.1
  have hb := C0.2.1
  have hl : lv_has ls 1 [(0, .ref (ad 1))] := hl
  refine lv_aload_n hx hb d_ST_changed_0 rfl (lv_at hl 0 rfl) ?_
  refine sx_get C0 hP 0 rfl rfl 7 (by decide) f_ST_39 rfl rfl d_ST_changed_1 ?_
  exact sx_iretP C0 hr hlk d_ST_changed_4
/-- what a store gives back -/
def p_given (f c v : Int64) : Int32 := if f = c then (if f ≠ 0 ∧ v = 0 then 15000 else 0) else (if f ≠ 0 ∧ c = 0 then (-15000) else 0) + (if f ≠ 0 ∧ v = 0 then 15000 else 0) + (if f = v then (if f = 0 then 19900 else 2800) else 0)
theorem c_ST_given {f c v : Int64} {ws : va_W} : sx_CtrP l y_ST_given w_ST_given 0 0 G [.long f, .long c, .long v] ws (.int (p_given f c v)) := by
  refine sx_CtrP.of (by decide +kernel) (Nat.le_of_ble_eq_true rfl) ?_
  intro p e s m below meth c9 ls C0 hr hlk hl hP
  have C0 : sx_C p s m c9 b_ST_given 7 sx_ST G := C0
  have hx := C0.1
  have hb := C0.2.1
  have hl : lv_has ls 7 [(0, .long f), (2, .long c), (4, .long v)] := hl
  refine lv_lload_n hx hb d_ST_given_0 rfl (lv_at hl 0 rfl) ?_
  refine lv_lload_n hx hb d_ST_given_1 rfl (lv_at hl 1 rfl) ?_
  refine sx_lifne (tgt := 27) C0 d_ST_given_2 d_ST_given_3 (by decide) (fun h1 => ?_) (fun h1 => ?_)
  rotate_left
  · -- f = c
    refine lv_lload_n hx hb d_ST_given_6 rfl (lv_at hl 0 rfl) ?_
    refine lv_lconst (v := 0) hx hb d_ST_given_7 (by decide) ?_
    refine sx_lifeq (tgt := 25) C0 d_ST_given_8 d_ST_given_9 (by decide) (fun h2 => ?_) (fun h2 => ?_)
    · rw [show p_given f c v = 0 by simp [p_given, h1, show c = 0 from h1.symm.trans h2]]
      refine lv_iconst (v := 0) hx hb d_ST_given_25 (by decide) ?_
      exact sx_iretP C0 hr hlk d_ST_given_26
    · skip
      refine lv_lload hx hb d_ST_given_12 (lv_at hl 2 rfl) ?_
      refine lv_lconst (v := 0) hx hb d_ST_given_14 (by decide) ?_
      refine sx_lifne (tgt := 25) C0 d_ST_given_15 d_ST_given_16 (by decide) (fun h3 => ?_) (fun h3 => ?_)
      · rw [show p_given f c v = 0 by simp [p_given, h1, h3]]
        refine lv_iconst (v := 0) hx hb d_ST_given_25 (by decide) ?_
        exact sx_iretP C0 hr hlk d_ST_given_26
      · rw [show p_given f c v = 15000 by simp only [p_given]; rw [if_pos h1, if_pos ⟨h2, h3⟩]]
        refine lv_sipush (v := 15000) hx hb d_ST_given_19 (by decide) ?_
        refine lv_goto (tgt := 26) hx hb d_ST_given_22 (by decide) ?_
        exact sx_iretP C0 hr hlk d_ST_given_26
  · -- f ≠ c
    refine lv_iconst (v := 0) hx hb d_ST_given_27 (by decide) ?_
    refine lv_istore hx hb d_ST_given_28 hl (by decide) rfl (fun ls hl => ?_)
    have hl : lv_has ls 7 [(6, .int 0), (0, .long f), (2, .long c), (4, .long v)] := hl
    have tail2 : ∀ (r : Int32) (ls : Array Slot), r = (if f ≠ 0 ∧ c = 0 then (-15000) else 0) + (if f ≠ 0 ∧ v = 0 then 15000 else 0) → lv_has ls 7 [(6, .int r), (0, .long f), (2, .long c), (4, .long v)] → W p l e (sx_rm 0 0 0 0) s m ([.long f, .long c, .long v] : List Value).toArray below meth c9 s.heap [] 0 0 (MQ below (sx_QP (.int (p_given f c v))) ([.long f, .long c, .long v] : List Value).toArray s 0 0 (fun _ => False)) (F0 m 67 ls []) := by
      intro r ls hr2 hl
      refine lv_lload_n hx hb d_ST_given_67 rfl (lv_at hl 1 rfl) ?_
      refine lv_lload hx hb d_ST_given_68 (lv_at hl 3 rfl) ?_
      refine sx_lifne (tgt := 94) C0 d_ST_given_70 d_ST_given_71 (by decide) (fun h4 => ?_) (fun h4 => ?_)
      · rw [show p_given f c v = r by rw [hr2]; simp only [p_given]; rw [if_neg h1, if_neg h4, Int32.add_zero]]
        refine lv_iload hx hb d_ST_given_94 (lv_at hl 0 rfl) ?_
        exact sx_iretP C0 hr hlk d_ST_given_96
      · skip
        refine lv_iload hx hb d_ST_given_74 (lv_at hl 0 rfl) ?_
        refine lv_lload_n hx hb d_ST_given_76 rfl (lv_at hl 1 rfl) ?_
        refine lv_lconst (v := 0) hx hb d_ST_given_77 (by decide) ?_
        refine sx_lifne (tgt := 88) C0 d_ST_given_78 d_ST_given_79 (by decide) (fun h5 => ?_) (fun h5 => ?_)
        · rw [show p_given f c v = r + 2800 by rw [hr2]; simp only [p_given]; rw [if_neg h1, if_pos h4, if_neg h5]]
          refine lv_sipush (v := 2800) hx hb d_ST_given_88 (by decide) ?_
          refine lv_iadd hx hb d_ST_given_91 ?_
          refine lv_istore hx hb d_ST_given_92 hl (by decide) rfl (fun ls hl => ?_)
          have hl : lv_has ls 7 [(6, .int (r + 2800)), (0, .long f), (2, .long c), (4, .long v)] := hl
          refine lv_iload hx hb d_ST_given_94 (lv_at hl 0 rfl) ?_
          exact sx_iretP C0 hr hlk d_ST_given_96
        · rw [show p_given f c v = r + 19900 by rw [hr2]; simp only [p_given]; rw [if_neg h1, if_pos h4, if_pos h5]]
          refine lv_sipush (v := 19900) hx hb d_ST_given_82 (by decide) ?_
          refine lv_goto (tgt := 91) hx hb d_ST_given_85 (by decide) ?_
          refine lv_iadd hx hb d_ST_given_91 ?_
          refine lv_istore hx hb d_ST_given_92 hl (by decide) rfl (fun ls hl => ?_)
          have hl : lv_has ls 7 [(6, .int (r + 19900)), (0, .long f), (2, .long c), (4, .long v)] := hl
          refine lv_iload hx hb d_ST_given_94 (lv_at hl 0 rfl) ?_
          exact sx_iretP C0 hr hlk d_ST_given_96
    have tail1 : ∀ (r : Int32) (ls : Array Slot), r = (if f ≠ 0 ∧ c = 0 then (-15000) else 0) → lv_has ls 7 [(6, .int r), (0, .long f), (2, .long c), (4, .long v)] → W p l e (sx_rm 0 0 0 0) s m ([.long f, .long c, .long v] : List Value).toArray below meth c9 s.heap [] 0 0 (MQ below (sx_QP (.int (p_given f c v))) ([.long f, .long c, .long v] : List Value).toArray s 0 0 (fun _ => False)) (F0 m 48 ls []) := by
      intro r ls hr2 hl
      refine lv_lload_n hx hb d_ST_given_48 rfl (lv_at hl 1 rfl) ?_
      refine lv_lconst (v := 0) hx hb d_ST_given_49 (by decide) ?_
      refine sx_lifeq (tgt := 67) C0 d_ST_given_50 d_ST_given_51 (by decide) (fun h4 => ?_) (fun h4 => ?_)
      · exact tail2 r ls (by rw [hr2, if_neg (fun z : f ≠ 0 ∧ v = 0 => z.1 h4), Int32.add_zero]) hl
      · skip
        refine lv_lload hx hb d_ST_given_54 (lv_at hl 3 rfl) ?_
        refine lv_lconst (v := 0) hx hb d_ST_given_56 (by decide) ?_
        refine sx_lifne (tgt := 67) C0 d_ST_given_57 d_ST_given_58 (by decide) (fun h5 => ?_) (fun h5 => ?_)
        · exact tail2 r ls (by rw [hr2, if_neg (fun z : f ≠ 0 ∧ v = 0 => h5 z.2), Int32.add_zero]) hl
        · skip
          refine lv_iincW (k := 0) (v := r + 15000) hx hb d_ST_given_61 hl rfl rfl (by decide) rfl (fun ls hl => ?_)
          have hl : lv_has ls 7 [(6, .int (r + 15000)), (0, .long f), (2, .long c), (4, .long v)] := hl
          exact tail2 _ ls (by rw [hr2, if_pos (⟨h4, h5⟩ : f ≠ 0 ∧ v = 0)]) hl
    refine lv_lload_n hx hb d_ST_given_30 rfl (lv_at hl 1 rfl) ?_
    refine lv_lconst (v := 0) hx hb d_ST_given_31 (by decide) ?_
    refine sx_lifeq (tgt := 48) C0 d_ST_given_32 d_ST_given_33 (by decide) (fun h4 => ?_) (fun h4 => ?_)
    · exact tail1 0 ls (by rw [if_neg (fun z : f ≠ 0 ∧ c = 0 => z.1 h4)]) hl
    · skip
      refine lv_lload_n hx hb d_ST_given_36 rfl (lv_at hl 2 rfl) ?_
      refine lv_lconst (v := 0) hx hb d_ST_given_37 (by decide) ?_
      refine sx_lifne (tgt := 48) C0 d_ST_given_38 d_ST_given_39 (by decide) (fun h5 => ?_) (fun h5 => ?_)
      · exact tail1 0 ls (by rw [if_neg (fun z : f ≠ 0 ∧ c = 0 => h5 z.2)]) hl
      · skip
        refine lv_iincW (k := 0) (v := 0 + (-15000)) hx hb d_ST_given_42 hl rfl rfl (by decide) rfl (fun ls hl => ?_)
        have hl : lv_has ls 7 [(6, .int (0 + (-15000))), (0, .long f), (2, .long c), (4, .long v)] := hl
        exact tail1 _ ls (by rw [if_pos (⟨h4, h5⟩ : f ≠ 0 ∧ c = 0)]; rfl) hl
end ST1
end
section
/-! Storage: cost, some, touch, back -/
section ST2
variable {l : Launch} {G : sx_G} {ad : Nat → Nat} {qc qb : Nat} {V F : Nat → Int64} {T L : Nat → Int32} {tc n : Nat} {CH : Nat → Int32} {BE : Nat → Int64} {cd : Nat} {rf : Int32}
/-- what a store costs -/
def p_cost (t : Int32) (f c v : Int64) : Int32 := (if t = 0 then 2100 else 0) + (if v = c ∨ f ≠ c then 100 else if f = 0 then 20000 else 2900)
set_option maxRecDepth 20000 in
theorem c_ST_cost {x : Nat} {v : Int64} (hX : x < 256) : sx_CtrP l y_ST_cost w_ST_cost 0 0 G [.ref (ad 1), .int (nI x), .long v] (wST G ad qc qb V F T L tc n CH BE cd rf) (.int (p_cost (T x) (F x) (V x) v)) := by
  refine sx_CtrP.of (by decide +kernel) (Nat.le_of_ble_eq_true rfl) ?_
  intro p e s m below meth c9 ls C0 hr hlk hl hP
  have C0 : sx_C p s m c9 b_ST_cost 5 sx_ST G := C0
  have hx := C0.1
  have hb := C0.2.1
  have hl : lv_has ls 5 [(0, .ref (ad 1)), (1, .int (nI x)), (2, .long v)] := hl
  have tail : ∀ (r : Int32) (ls : Array Slot), r = (if T x = 0 then 2100 else 0) → lv_has ls 5 [(4, .int r), (0, .ref (ad 1)), (1, .int (nI x)), (2, .long v)] → W p l e (sx_rm 0 0 0 0) s m ([.ref (ad 1), .int (nI x), .long v] : List Value).toArray below meth c9 s.heap [] 0 0 (MQ below (sx_QP (.int (p_cost (T x) (F x) (V x) v))) ([.ref (ad 1), .int (nI x), .long v] : List Value).toArray s 0 0 (fun _ => False)) (F0 m 18 ls []) := by
    intro r ls hr2 hl
    refine lv_lload_n hx hb d_ST_cost_18 rfl (lv_at hl 3 rfl) ?_
    refine lv_aload_n hx hb d_ST_cost_19 rfl (lv_at hl 1 rfl) ?_
    refine sx_get C0 hP 0 rfl rfl 0 (by decide) f_ST_9 rfl rfl d_ST_cost_20 ?_
    refine lv_iload_n hx hb d_ST_cost_23 rfl (lv_at hl 2 rfl) ?_
    refine sx_lald (i := x) (v := V x) C0 hP 1 rfl rfl hX (by decide) rfl d_ST_cost_24 ?_
    refine sx_lifeq (tgt := 45) C0 d_ST_cost_25 d_ST_cost_26 (by decide) (fun h1 => ?_) (fun h1 => ?_)
    · rw [show p_cost (T x) (F x) (V x) v = r + 100 by rw [hr2]; simp only [p_cost]; rw [if_pos (Or.inl h1)]]
      refine lv_iload hx hb d_ST_cost_45 (lv_at hl 0 rfl) ?_
      refine lv_bipush (v := 100) hx hb d_ST_cost_47 (by decide) ?_
      refine lv_iadd hx hb d_ST_cost_49 ?_
      exact sx_iretP C0 hr hlk d_ST_cost_50
    · skip
      refine lv_aload_n hx hb d_ST_cost_29 rfl (lv_at hl 1 rfl) ?_
      refine sx_get C0 hP 0 rfl rfl 1 (by decide) f_ST_15 rfl rfl d_ST_cost_30 ?_
      refine lv_iload_n hx hb d_ST_cost_33 rfl (lv_at hl 2 rfl) ?_
      refine sx_lald (i := x) (v := F x) C0 hP 2 rfl rfl hX (by decide) rfl d_ST_cost_34 ?_
      refine lv_aload_n hx hb d_ST_cost_35 rfl (lv_at hl 1 rfl) ?_
      refine sx_get C0 hP 0 rfl rfl 0 (by decide) f_ST_9 rfl rfl d_ST_cost_36 ?_
      refine lv_iload_n hx hb d_ST_cost_39 rfl (lv_at hl 2 rfl) ?_
      refine sx_lald (i := x) (v := V x) C0 hP 1 rfl rfl hX (by decide) rfl d_ST_cost_40 ?_
      refine sx_lifeq (tgt := 51) C0 d_ST_cost_41 d_ST_cost_42 (by decide) (fun h2 => ?_) (fun h2 => ?_)
      · skip
        refine lv_iload hx hb d_ST_cost_51 (lv_at hl 0 rfl) ?_
        refine lv_aload_n hx hb d_ST_cost_53 rfl (lv_at hl 1 rfl) ?_
        refine sx_get C0 hP 0 rfl rfl 1 (by decide) f_ST_15 rfl rfl d_ST_cost_54 ?_
        refine lv_iload_n hx hb d_ST_cost_57 rfl (lv_at hl 2 rfl) ?_
        refine sx_lald (i := x) (v := F x) C0 hP 2 rfl rfl hX (by decide) rfl d_ST_cost_58 ?_
        refine lv_lconst (v := 0) hx hb d_ST_cost_59 (by decide) ?_
        refine sx_lifne (tgt := 70) C0 d_ST_cost_60 d_ST_cost_61 (by decide) (fun h3 => ?_) (fun h3 => ?_)
        · rw [show p_cost (T x) (F x) (V x) v = r + 2900 by rw [hr2]; simp only [p_cost]; rw [if_neg (fun z : v = V x ∨ F x ≠ V x => z.elim h1 (fun z => z h2)), if_neg h3]]
          refine lv_sipush (v := 2900) hx hb d_ST_cost_70 (by decide) ?_
          refine lv_iadd hx hb d_ST_cost_73 ?_
          exact sx_iretP C0 hr hlk d_ST_cost_74
        · rw [show p_cost (T x) (F x) (V x) v = r + 20000 by rw [hr2]; simp only [p_cost]; rw [if_neg (fun z : v = V x ∨ F x ≠ V x => z.elim h1 (fun z => z h2)), if_pos h3]]
          refine lv_sipush (v := 20000) hx hb d_ST_cost_64 (by decide) ?_
          refine lv_goto (tgt := 73) hx hb d_ST_cost_67 (by decide) ?_
          refine lv_iadd hx hb d_ST_cost_73 ?_
          exact sx_iretP C0 hr hlk d_ST_cost_74
      · rw [show p_cost (T x) (F x) (V x) v = r + 100 by rw [hr2]; simp only [p_cost]; rw [if_pos (Or.inr h2)]]
        refine lv_iload hx hb d_ST_cost_45 (lv_at hl 0 rfl) ?_
        refine lv_bipush (v := 100) hx hb d_ST_cost_47 (by decide) ?_
        refine lv_iadd hx hb d_ST_cost_49 ?_
        exact sx_iretP C0 hr hlk d_ST_cost_50
  refine lv_aload_n hx hb d_ST_cost_0 rfl (lv_at hl 0 rfl) ?_
  refine sx_get C0 hP 0 rfl rfl 2 (by decide) f_ST_18 rfl rfl d_ST_cost_1 ?_
  refine lv_iload_n hx hb d_ST_cost_4 rfl (lv_at hl 1 rfl) ?_
  refine sx_zald (i := x) (v := T x) C0 hP 3 rfl rfl hX (by decide) rfl d_ST_cost_5 ?_
  refine lv_if_eq (tgt := 13) hx hb d_ST_cost_6 (by decide) (fun h1 => ?_) (fun h1 => ?_)
  · skip
    refine lv_sipush (v := 2100) hx hb d_ST_cost_13 (by decide) ?_
    refine lv_istore hx hb d_ST_cost_16 hl (by decide) rfl (fun ls hl => ?_)
    have hl : lv_has ls 5 [(4, .int 2100), (0, .ref (ad 1)), (1, .int (nI x)), (2, .long v)] := hl
    exact tail 2100 ls (by rw [if_pos h1]) hl
  · skip
    refine lv_iconst (v := 0) hx hb d_ST_cost_9 (by decide) ?_
    refine lv_goto (tgt := 16) hx hb d_ST_cost_10 (by decide) ?_
    refine lv_istore hx hb d_ST_cost_16 hl (by decide) rfl (fun ls hl => ?_)
    have hl : lv_has ls 5 [(4, .int 0), (0, .ref (ad 1)), (1, .int (nI x)), (2, .long v)] := hl
    exact tail 0 ls (by rw [if_neg h1]) hl
/-- how many of the first places don't hold nought -/
def p_cnL (V : Nat → Int64) : Nat → Nat
  | 0 => 0
  | i + 1 => p_cnL V i + (if V i = 0 then 0 else 1)
theorem p_cnL_le (V : Nat → Int64) (i : Nat) : p_cnL V i ≤ i := by
  induction i with
  | zero => exact Nat.le_refl _
  | succ i ih =>
    show p_cnL V i + _ ≤ i + 1
    split <;> omega
theorem c_ST_some : sx_CtrP l y_ST_some w_ST_some 0 0 G [.ref (ad 1)] (wST G ad qc qb V F T L tc n CH BE cd rf) (.int (nI (p_cnL V 256))) := by
  refine sx_CtrP.of (by decide +kernel) (Nat.le_of_ble_eq_true rfl) ?_
  intro p e s m below meth c9 ls C0 hr hlk hl hP
  have C0 : sx_C p s m c9 b_ST_some 3 sx_ST G := C0
  have hx := C0.1
  have hb := C0.2.1
  have hl : lv_has ls 3 [(0, .ref (ad 1))] := hl
  have loop : ∀ (k i : Nat) (ls : Array Slot), i + k = 256 → lv_has ls 3 [(2, .int (nI i)), (1, .int (nI (p_cnL V i))), (0, .ref (ad 1))] → W p l e (sx_rm 0 0 0 0) s m ([.ref (ad 1)] : List Value).toArray below meth c9 s.heap [] 0 0 (MQ below (sx_QP (.int (nI (p_cnL V 256)))) ([.ref (ad 1)] : List Value).toArray s 0 0 (fun _ => False)) (F0 m 4 ls []) := by
    intro k
    induction k with
    | zero =>
      intro i ls hi hl
      have e1 : i = 256 := hi
      subst e1
      refine lv_iload_n hx hb d_ST_some_4 rfl (lv_at hl 0 rfl) ?_
      refine lv_sipush (v := nI 256) hx hb d_ST_some_5 (by decide +kernel) ?_
      refine lv_icmp_ge (tgt := 31) hx hb d_ST_some_8 (by decide) (fun _ => ?_) (fun z => absurd (Int32.le_refl _) z)
      refine lv_iload_n hx hb d_ST_some_31 rfl (lv_at hl 1 rfl) ?_
      exact sx_iretP C0 hr hlk d_ST_some_32
    | succ k ih =>
      intro i ls hi hl
      refine lv_iload_n hx hb d_ST_some_4 rfl (lv_at hl 0 rfl) ?_
      refine lv_sipush (v := nI 256) hx hb d_ST_some_5 (by decide +kernel) ?_
      refine lv_icmp_ge (tgt := 31) hx hb d_ST_some_8 (by decide) (fun z => absurd z (nI_ge (show i < 256 by omega) (by decide))) (fun _ => ?_)
      refine lv_aload_n hx hb d_ST_some_11 rfl (lv_at hl 2 rfl) ?_
      refine sx_get C0 hP 0 rfl rfl 0 (by decide) f_ST_9 rfl rfl d_ST_some_12 ?_
      refine lv_iload_n hx hb d_ST_some_15 rfl (lv_at hl 0 rfl) ?_
      refine sx_lald (i := i) (v := V i) C0 hP 1 rfl rfl (show i < 256 by omega) (by decide) rfl d_ST_some_16 ?_
      refine lv_lconst (v := 0) hx hb d_ST_some_17 (by decide) ?_
      refine sx_lifeq (tgt := 25) C0 d_ST_some_18 d_ST_some_19 (by decide) (fun h1 => ?_) (fun h1 => ?_)
      · have e2 : p_cnL V (i + 1) = p_cnL V i := by show p_cnL V i + _ = _; rw [if_pos h1, Nat.add_zero]
        refine lv_iinc (k := 0) (v := nI (i + 1)) hx hb d_ST_some_25 hl rfl (nI_1 i) (by decide) rfl (fun ls hl => ?_)
        have hl : lv_has ls 3 [(2, .int (nI (i + 1))), (1, .int (nI (p_cnL V i))), (0, .ref (ad 1))] := hl
        refine lv_goto (tgt := 4) hx hb d_ST_some_28 (by decide) ?_
        exact ih (i + 1) ls (by omega) (by rw [e2]; exact hl)
      · have e2 : p_cnL V (i + 1) = p_cnL V i + 1 := by show p_cnL V i + _ = _; rw [if_neg h1]
        refine lv_iinc (k := 1) (v := nI (p_cnL V i + 1)) hx hb d_ST_some_22 hl rfl (nI_1 _) (by decide) rfl (fun ls hl => ?_)
        have hl : lv_has ls 3 [(1, .int (nI (p_cnL V i + 1))), (2, .int (nI i)), (0, .ref (ad 1))] := hl
        refine lv_iinc (k := 1) (v := nI (i + 1)) hx hb d_ST_some_25 hl rfl (nI_1 i) (by decide) rfl (fun ls hl => ?_)
        have hl : lv_has ls 3 [(2, .int (nI (i + 1))), (1, .int (nI (p_cnL V i + 1))), (0, .ref (ad 1))] := hl
        refine lv_goto (tgt := 4) hx hb d_ST_some_28 (by decide) ?_
        exact ih (i + 1) ls (by omega) (by rw [e2]; exact hl)
  refine lv_iconst (v := nI 0) hx hb d_ST_some_0 (by decide +kernel) ?_
  refine lv_istore_n hx hb d_ST_some_1 rfl hl (by decide) rfl (fun ls hl => ?_)
  have hl : lv_has ls 3 [(1, .int (nI 0)), (0, .ref (ad 1))] := hl
  refine lv_iconst (v := nI 0) hx hb d_ST_some_2 (by decide +kernel) ?_
  refine lv_istore_n hx hb d_ST_some_3 rfl hl (by decide) rfl (fun ls hl => ?_)
  have hl : lv_has ls 3 [(2, .int (nI 0)), (1, .int (nI 0)), (0, .ref (ad 1))] := hl
  exact loop 256 0 ls rfl hl
theorem c_ST_touch1 {x : Nat} (hX : x < 256) (hT : ¬ T x = 0) : sx_CtrP l y_ST_touch w_ST_touch 0 0 G [.ref (ad 1), .int (nI x)] (wST G ad qc qb V F T L tc n CH BE cd rf) (.int 0) := by
  refine sx_CtrP.of (by decide +kernel) (Nat.le_of_ble_eq_true rfl) ?_
  intro p e s m below meth c9 ls C0 hr hlk hl hP
  have C0 : sx_C p s m c9 b_ST_touch 2 sx_ST G := C0
  have hx := C0.1
  have hb := C0.2.1
  have hl : lv_has ls 2 [(0, .ref (ad 1)), (1, .int (nI x))] := hl
  refine lv_aload_n hx hb d_ST_touch_0 rfl (lv_at hl 0 rfl) ?_
  refine sx_get C0 hP 0 rfl rfl 2 (by decide) f_ST_18 rfl rfl d_ST_touch_1 ?_
  refine lv_iload_n hx hb d_ST_touch_4 rfl (lv_at hl 1 rfl) ?_
  refine sx_zald (i := x) (v := T x) C0 hP 3 rfl rfl hX (by decide) rfl d_ST_touch_5 ?_
  refine lv_if_eq (tgt := 11) hx hb d_ST_touch_6 (by decide) (fun z => absurd z (hT)) (fun _ => ?_)
  refine lv_iconst (v := 0) hx hb d_ST_touch_9 (by decide) ?_
  exact sx_zretP C0 hr rfl hlk d_ST_touch_10
theorem c_ST_touch0 {x : Nat} (hX : x < 256) (htc : tc < 256) (hT : T x = 0) : sx_Ctr l y_ST_touch w_ST_touch (sx_rm 0 0 0 0) G [.ref (ad 1), .int (nI x)] (wST G ad qc qb V F T L tc n CH BE cd rf) (sx_is G (some (.int 1)) (wST G ad qc qb V F (upd T x 1) (upd L tc (nI x)) (tc + 1) n CH BE cd rf)) := by
  refine sx_Ctr.of (by decide +kernel) (Nat.le_of_ble_eq_true rfl) ?_
  intro p e s m below meth c9 ls A C0 hr hlk hnm hl hP hD hA hS
  have C0 : sx_C p s m c9 b_ST_touch 2 sx_ST G := C0
  have hx := C0.1
  have hb := C0.2.1
  have hl : lv_has ls 2 [(0, .ref (ad 1)), (1, .int (nI x))] := hl
  refine lv_aload_n hx hb d_ST_touch_0 rfl (lv_at hl 0 rfl) ?_
  refine sx_get C0 hP 0 rfl rfl 2 (by decide) f_ST_18 rfl rfl d_ST_touch_1 ?_
  refine lv_iload_n hx hb d_ST_touch_4 rfl (lv_at hl 1 rfl) ?_
  refine sx_zald (i := x) (v := T x) C0 hP 3 rfl rfl hX (by decide) rfl d_ST_touch_5 ?_
  refine lv_if_eq (tgt := 11) hx hb d_ST_touch_6 (by decide) (fun _ => ?_) (fun z => absurd (hT) z)
  refine lv_aload_n hx hb d_ST_touch_11 rfl (lv_at hl 0 rfl) ?_
  refine sx_get C0 hP 0 rfl rfl 2 (by decide) f_ST_18 rfl rfl d_ST_touch_12 ?_
  refine lv_iload_n hx hb d_ST_touch_15 rfl (lv_at hl 1 rfl) ?_
  refine lv_iconst (v := 1) hx hb d_ST_touch_16 (by decide) ?_
  refine sx_zast (i := x) C0 (by decide +kernel) hP hD hS 3 rfl rfl hX (by decide) d_ST_touch_17 (fun H locs hP hD hS => ?_)
  have hP : va_P G.1 sx_cls ([(ad 1, .inr (1, [.ref (ad 5), .ref (ad 6), .ref (ad 7), .ref (ad 8), .int (nI tc), .ref qc, .ref qb, .int (nI cd), .int rf])), (ad 5, .inl (G.2 1, 256, .inr (.inl V))), (ad 6, .inl (G.2 1, 256, .inr (.inl F))), (ad 7, .inl (G.2 2, 256, .inl (upd T x 1))), (ad 8, .inl (G.2 0, 256, .inl L)), (qc, .inl (G.2 0, n, .inl CH)), (qb, .inl (G.2 1, n, .inr (.inl BE)))]) H := hP
  have hD : va_D A ([(ad 1, .inr (1, [.ref (ad 5), .ref (ad 6), .ref (ad 7), .ref (ad 8), .int (nI tc), .ref qc, .ref qb, .int (nI cd), .int rf])), (ad 5, .inl (G.2 1, 256, .inr (.inl V))), (ad 6, .inl (G.2 1, 256, .inr (.inl F))), (ad 7, .inl (G.2 2, 256, .inl (upd T x 1))), (ad 8, .inl (G.2 0, 256, .inl L)), (qc, .inl (G.2 0, n, .inl CH)), (qb, .inl (G.2 1, n, .inr (.inl BE)))]) := hD
  refine lv_aload_n hx hb d_ST_touch_18 rfl (lv_at hl 0 rfl) ?_
  refine sx_get C0 hP 0 rfl rfl 3 (by decide) f_ST_22 rfl rfl d_ST_touch_19 ?_
  refine lv_aload_n hx hb d_ST_touch_22 rfl (lv_at hl 0 rfl) ?_
  refine sx_get C0 hP 0 rfl rfl 4 (by decide) f_ST_32 rfl rfl d_ST_touch_23 ?_
  refine lv_iload_n hx hb d_ST_touch_26 rfl (lv_at hl 1 rfl) ?_
  refine sx_iast (i := tc) C0 hP hD hS 4 rfl rfl htc (by decide) d_ST_touch_27 (fun H locs hP hD hS => ?_)
  have hP : va_P G.1 sx_cls ([(ad 1, .inr (1, [.ref (ad 5), .ref (ad 6), .ref (ad 7), .ref (ad 8), .int (nI tc), .ref qc, .ref qb, .int (nI cd), .int rf])), (ad 5, .inl (G.2 1, 256, .inr (.inl V))), (ad 6, .inl (G.2 1, 256, .inr (.inl F))), (ad 7, .inl (G.2 2, 256, .inl (upd T x 1))), (ad 8, .inl (G.2 0, 256, .inl (upd L tc (nI x)))), (qc, .inl (G.2 0, n, .inl CH)), (qb, .inl (G.2 1, n, .inr (.inl BE)))]) H := hP
  have hD : va_D A ([(ad 1, .inr (1, [.ref (ad 5), .ref (ad 6), .ref (ad 7), .ref (ad 8), .int (nI tc), .ref qc, .ref qb, .int (nI cd), .int rf])), (ad 5, .inl (G.2 1, 256, .inr (.inl V))), (ad 6, .inl (G.2 1, 256, .inr (.inl F))), (ad 7, .inl (G.2 2, 256, .inl (upd T x 1))), (ad 8, .inl (G.2 0, 256, .inl (upd L tc (nI x)))), (qc, .inl (G.2 0, n, .inl CH)), (qb, .inl (G.2 1, n, .inr (.inl BE)))]) := hD
  refine lv_aload_n hx hb d_ST_touch_28 rfl (lv_at hl 0 rfl) ?_
  refine lv_dup hx hb d_ST_touch_29 rfl ?_
  refine sx_get C0 hP 0 rfl rfl 4 (by decide) f_ST_32 rfl rfl d_ST_touch_30 ?_
  refine lv_iconst (v := 1) hx hb d_ST_touch_33 (by decide) ?_
  refine lv_iadd hx hb d_ST_touch_34 ?_
  refine sx_topi (y := nI (tc + 1)) (nI_1 tc) ?_
  refine sx_put (ty := .int) C0 hP hD hS 0 rfl rfl 4 (by decide) f_ST_32 rfl rfl (by decide +kernel) rfl rfl (Nat.le_of_ble_eq_true rfl) d_ST_touch_35 (fun H locs hP hD hS => ?_)
  have hP : va_P G.1 sx_cls ([(ad 1, .inr (1, [.ref (ad 5), .ref (ad 6), .ref (ad 7), .ref (ad 8), .int (nI (tc + 1)), .ref qc, .ref qb, .int (nI cd), .int rf])), (ad 5, .inl (G.2 1, 256, .inr (.inl V))), (ad 6, .inl (G.2 1, 256, .inr (.inl F))), (ad 7, .inl (G.2 2, 256, .inl (upd T x 1))), (ad 8, .inl (G.2 0, 256, .inl (upd L tc (nI x)))), (qc, .inl (G.2 0, n, .inl CH)), (qb, .inl (G.2 1, n, .inr (.inl BE)))]) H := hP
  have hD : va_D A ([(ad 1, .inr (1, [.ref (ad 5), .ref (ad 6), .ref (ad 7), .ref (ad 8), .int (nI (tc + 1)), .ref qc, .ref qb, .int (nI cd), .int rf])), (ad 5, .inl (G.2 1, 256, .inr (.inl V))), (ad 6, .inl (G.2 1, 256, .inr (.inl F))), (ad 7, .inl (G.2 2, 256, .inl (upd T x 1))), (ad 8, .inl (G.2 0, 256, .inl (upd L tc (nI x)))), (qc, .inl (G.2 0, n, .inl CH)), (qb, .inl (G.2 1, n, .inr (.inl BE)))]) := hD
  refine lv_iconst (v := 1) hx hb d_ST_touch_38 (by decide) ?_
  exact sx_zret C0 hr rfl hlk hS ⟨rfl, hP, hD⟩ d_ST_touch_39
/-- the way back: entries n - 1 down to lo -/
def p_und (CH : Nat → Int32) (BE : Nat → Int64) (lo : Nat) : Nat → (Nat → Int64) → (Nat → Int64)
  | 0, V => V
  | n + 1, V => if lo ≤ n then p_und CH BE lo n (vp_updL V (CH n).toNatClampNeg (BE n)) else V
theorem p_und_s (CH : Nat → Int32) (BE : Nat → Int64) (lo k : Nat) (V : Nat → Int64) : p_und CH BE lo (lo + k + 1) V = p_und CH BE lo (lo + k) (vp_updL V (CH (lo + k)).toNatClampNeg (BE (lo + k))) := by
  show (if lo ≤ lo + k then _ else _) = _
  rw [if_pos (Nat.le_add_right _ _)]
theorem p_und_0 (CH : Nat → Int32) (BE : Nat → Int64) (lo : Nat) (V : Nat → Int64) : p_und CH BE lo lo V = V := by
  cases lo with
  | zero => rfl
  | succ n => show (if n + 1 ≤ n then _ else _) = _; rw [if_neg (by omega)]
def p_unt (L : Nat → Int32) (lo : Nat) : Nat → (Nat → Int32) → (Nat → Int32)
  | 0, T => T
  | n + 1, T => if lo ≤ n then p_unt L lo n (upd T (L n).toNatClampNeg 0) else T
theorem p_unt_s (L : Nat → Int32) (lo k : Nat) (T : Nat → Int32) : p_unt L lo (lo + k + 1) T = p_unt L lo (lo + k) (upd T (L (lo + k)).toNatClampNeg 0) := by
  show (if lo ≤ lo + k then _ else _) = _
  rw [if_pos (Nat.le_add_right _ _)]
theorem p_unt_0 (L : Nat → Int32) (lo : Nat) (T : Nat → Int32) : p_unt L lo lo T = T := by
  cases lo with
  | zero => rfl
  | succ n => show (if n + 1 ≤ n then _ else _) = _; rw [if_neg (by omega)]
def p_ix (f : Nat → Int32) (n : Nat) : Prop := ∀ i, i < n → ∃ x : Nat, x < 256 ∧ f i = nI x
theorem c_ST_back {c0 t0 : Nat} {r : Int32} (hc : c0 ≤ cd) (ht : t0 ≤ tc) (hcn : cd ≤ n) (hn : n < 2 ^ 31) (htc : tc ≤ 256) (hCH : p_ix CH cd) (hL : p_ix L tc) : sx_Ctr l y_ST_back w_ST_back (sx_rm 0 0 0 0) G [.ref (ad 1), .int (nI c0), .int (nI t0), .int r] (wST G ad qc qb V F T L tc n CH BE cd rf) (sx_is G none (wST G ad qc qb (p_und CH BE c0 cd V) F (p_unt L t0 tc T) L t0 n CH BE c0 r)) := by
  refine sx_Ctr.of (by decide +kernel) (Nat.le_of_ble_eq_true rfl) ?_
  intro p e s m below meth c9 ls A C0 hr hlk hnm hl hP hD hA hS
  have C0 : sx_C p s m c9 b_ST_back 4 sx_ST G := C0
  have hx := C0.1
  have hb := C0.2.1
  have hl : lv_has ls 4 [(0, .ref (ad 1)), (1, .int (nI c0)), (2, .int (nI t0)), (3, .int r)] := hl
  have loop2 : ∀ (k : Nat) (T1 : Nat → Int32) (H : Heap) (locs : List Loc), t0 + k ≤ tc → p_unt L t0 (t0 + k) T1 = p_unt L t0 tc T → va_P G.1 sx_cls (wST G ad qc qb (p_und CH BE c0 cd V) F T1 L (t0 + k) n CH BE c0 rf) H → va_D A (wST G ad qc qb (p_und CH BE c0 cd V) F T1 L (t0 + k) n CH BE c0 rf) → va_S A s.heap H locs → W p l e (sx_rm 0 0 0 0) s m ([.ref (ad 1), .int (nI c0), .int (nI t0), .int r] : List Value).toArray below meth c9 H locs 0 0 (MQ below (sx_Q (sx_is G none (wST G ad qc qb (p_und CH BE c0 cd V) F (p_unt L t0 tc T) L t0 n CH BE c0 r)) A) ([.ref (ad 1), .int (nI c0), .int (nI t0), .int r] : List Value).toArray s 0 0 A) (F0 m 44 ls []) := by
    intro k
    induction k with
    | zero =>
      intro T1 H locs hk e1 hP hD hS
      rw [Nat.add_zero] at hP hD e1
      rw [p_unt_0] at e1
      subst e1
      refine lv_aload_n hx hb d_ST_back_44 rfl (lv_at hl 0 rfl) ?_
      refine sx_get C0 hP 0 rfl rfl 4 (by decide) f_ST_32 rfl rfl d_ST_back_45 ?_
      refine lv_iload_n hx hb d_ST_back_48 rfl (lv_at hl 2 rfl) ?_
      refine lv_icmp_le (tgt := 80) hx hb d_ST_back_49 (by decide) (fun _ => ?_) (fun z => absurd (Int32.le_refl _) z)
      refine lv_aload_n hx hb d_ST_back_80 rfl (lv_at hl 0 rfl) ?_
      refine lv_iload_n hx hb d_ST_back_81 rfl (lv_at hl 3 rfl) ?_
      refine sx_put (ty := .int) C0 hP hD hS 0 rfl rfl 8 (by decide) f_ST_36 rfl rfl (by decide +kernel) rfl rfl (Nat.le_of_ble_eq_true rfl) d_ST_back_82 (fun H locs hP hD hS => ?_)
      have hP : va_P G.1 sx_cls ([(ad 1, .inr (1, [.ref (ad 5), .ref (ad 6), .ref (ad 7), .ref (ad 8), .int (nI t0), .ref qc, .ref qb, .int (nI c0), .int r])), (ad 5, .inl (G.2 1, 256, .inr (.inl (p_und CH BE c0 cd V)))), (ad 6, .inl (G.2 1, 256, .inr (.inl F))), (ad 7, .inl (G.2 2, 256, .inl (p_unt L t0 tc T))), (ad 8, .inl (G.2 0, 256, .inl L)), (qc, .inl (G.2 0, n, .inl CH)), (qb, .inl (G.2 1, n, .inr (.inl BE)))]) H := hP
      have hD : va_D A ([(ad 1, .inr (1, [.ref (ad 5), .ref (ad 6), .ref (ad 7), .ref (ad 8), .int (nI t0), .ref qc, .ref qb, .int (nI c0), .int r])), (ad 5, .inl (G.2 1, 256, .inr (.inl (p_und CH BE c0 cd V)))), (ad 6, .inl (G.2 1, 256, .inr (.inl F))), (ad 7, .inl (G.2 2, 256, .inl (p_unt L t0 tc T))), (ad 8, .inl (G.2 0, 256, .inl L)), (qc, .inl (G.2 0, n, .inl CH)), (qb, .inl (G.2 1, n, .inr (.inl BE)))]) := hD
      exact sx_vret C0 hr hlk hS ⟨rfl, hP, hD⟩ d_ST_back_85
    | succ k ih =>
      intro T1 H locs hk e1 hP hD hS
      obtain ⟨y, hy, ey⟩ := hL (t0 + k) (by omega)
      refine lv_aload_n hx hb d_ST_back_44 rfl (lv_at hl 0 rfl) ?_
      refine sx_get C0 hP 0 rfl rfl 4 (by decide) f_ST_32 rfl rfl d_ST_back_45 ?_
      refine lv_iload_n hx hb d_ST_back_48 rfl (lv_at hl 2 rfl) ?_
      refine lv_icmp_le (tgt := 80) hx hb d_ST_back_49 (by decide) (fun z => absurd z (nI_ge (show t0 < t0 + (k + 1) by omega) (by omega))) (fun _ => ?_)
      refine lv_aload_n hx hb d_ST_back_52 rfl (lv_at hl 0 rfl) ?_
      refine lv_dup hx hb d_ST_back_53 rfl ?_
      refine sx_get C0 hP 0 rfl rfl 4 (by decide) f_ST_32 rfl rfl d_ST_back_54 ?_
      refine lv_iconst (v := 1) hx hb d_ST_back_57 (by decide) ?_
      refine lv_isub hx hb d_ST_back_58 ?_
      refine sx_topi (y := nI (t0 + k)) (nI_pred (t0 + k)) ?_
      refine sx_put (ty := .int) C0 hP hD hS 0 rfl rfl 4 (by decide) f_ST_32 rfl rfl (by decide +kernel) rfl rfl (Nat.le_of_ble_eq_true rfl) d_ST_back_59 (fun H locs hP hD hS => ?_)
      have hP : va_P G.1 sx_cls ([(ad 1, .inr (1, [.ref (ad 5), .ref (ad 6), .ref (ad 7), .ref (ad 8), .int (nI (t0 + k)), .ref qc, .ref qb, .int (nI c0), .int rf])), (ad 5, .inl (G.2 1, 256, .inr (.inl (p_und CH BE c0 cd V)))), (ad 6, .inl (G.2 1, 256, .inr (.inl F))), (ad 7, .inl (G.2 2, 256, .inl T1)), (ad 8, .inl (G.2 0, 256, .inl L)), (qc, .inl (G.2 0, n, .inl CH)), (qb, .inl (G.2 1, n, .inr (.inl BE)))]) H := hP
      have hD : va_D A ([(ad 1, .inr (1, [.ref (ad 5), .ref (ad 6), .ref (ad 7), .ref (ad 8), .int (nI (t0 + k)), .ref qc, .ref qb, .int (nI c0), .int rf])), (ad 5, .inl (G.2 1, 256, .inr (.inl (p_und CH BE c0 cd V)))), (ad 6, .inl (G.2 1, 256, .inr (.inl F))), (ad 7, .inl (G.2 2, 256, .inl T1)), (ad 8, .inl (G.2 0, 256, .inl L)), (qc, .inl (G.2 0, n, .inl CH)), (qb, .inl (G.2 1, n, .inr (.inl BE)))]) := hD
      refine lv_aload_n hx hb d_ST_back_62 rfl (lv_at hl 0 rfl) ?_
      refine sx_get C0 hP 0 rfl rfl 2 (by decide) f_ST_18 rfl rfl d_ST_back_63 ?_
      refine lv_aload_n hx hb d_ST_back_66 rfl (lv_at hl 0 rfl) ?_
      refine sx_get C0 hP 0 rfl rfl 3 (by decide) f_ST_22 rfl rfl d_ST_back_67 ?_
      refine lv_aload_n hx hb d_ST_back_70 rfl (lv_at hl 0 rfl) ?_
      refine sx_get C0 hP 0 rfl rfl 4 (by decide) f_ST_32 rfl rfl d_ST_back_71 ?_
      refine sx_iald (i := t0 + k) (v := nI y) C0 hP 4 rfl rfl (show t0 + k < 256 by omega) (by decide) ey d_ST_back_74 ?_
      refine lv_iconst (v := 0) hx hb d_ST_back_75 (by decide) ?_
      refine sx_zast (i := y) C0 (by decide +kernel) hP hD hS 3 rfl rfl hy (by decide) d_ST_back_76 (fun H locs hP hD hS => ?_)
      have hP : va_P G.1 sx_cls ([(ad 1, .inr (1, [.ref (ad 5), .ref (ad 6), .ref (ad 7), .ref (ad 8), .int (nI (t0 + k)), .ref qc, .ref qb, .int (nI c0), .int rf])), (ad 5, .inl (G.2 1, 256, .inr (.inl (p_und CH BE c0 cd V)))), (ad 6, .inl (G.2 1, 256, .inr (.inl F))), (ad 7, .inl (G.2 2, 256, .inl (upd T1 y 0))), (ad 8, .inl (G.2 0, 256, .inl L)), (qc, .inl (G.2 0, n, .inl CH)), (qb, .inl (G.2 1, n, .inr (.inl BE)))]) H := hP
      have hD : va_D A ([(ad 1, .inr (1, [.ref (ad 5), .ref (ad 6), .ref (ad 7), .ref (ad 8), .int (nI (t0 + k)), .ref qc, .ref qb, .int (nI c0), .int rf])), (ad 5, .inl (G.2 1, 256, .inr (.inl (p_und CH BE c0 cd V)))), (ad 6, .inl (G.2 1, 256, .inr (.inl F))), (ad 7, .inl (G.2 2, 256, .inl (upd T1 y 0))), (ad 8, .inl (G.2 0, 256, .inl L)), (qc, .inl (G.2 0, n, .inl CH)), (qb, .inl (G.2 1, n, .inr (.inl BE)))]) := hD
      refine lv_goto (tgt := 44) hx hb d_ST_back_77 (by decide) ?_
      refine ih (upd T1 y 0) H locs (by omega) ?_ hP hD hS
      rw [← e1, show t0 + (k + 1) = t0 + k + 1 from rfl, p_unt_s, ey, nI_clamp (by omega)]
  have loop1 : ∀ (k : Nat) (V1 : Nat → Int64) (H : Heap) (locs : List Loc), c0 + k ≤ cd → p_und CH BE c0 (c0 + k) V1 = p_und CH BE c0 cd V → va_P G.1 sx_cls (wST G ad qc qb V1 F T L tc n CH BE (c0 + k) rf) H → va_D A (wST G ad qc qb V1 F T L tc n CH BE (c0 + k) rf) → va_S A s.heap H locs → W p l e (sx_rm 0 0 0 0) s m ([.ref (ad 1), .int (nI c0), .int (nI t0), .int r] : List Value).toArray below meth c9 H locs 0 0 (MQ below (sx_Q (sx_is G none (wST G ad qc qb (p_und CH BE c0 cd V) F (p_unt L t0 tc T) L t0 n CH BE c0 r)) A) ([.ref (ad 1), .int (nI c0), .int (nI t0), .int r] : List Value).toArray s 0 0 A) (F0 m 0 ls []) := by
    intro k
    induction k with
    | zero =>
      intro V1 H locs hk e1 hP hD hS
      rw [Nat.add_zero] at hP hD e1
      rw [p_und_0] at e1
      subst e1
      refine lv_aload_n hx hb d_ST_back_0 rfl (lv_at hl 0 rfl) ?_
      refine sx_get C0 hP 0 rfl rfl 7 (by decide) f_ST_39 rfl rfl d_ST_back_1 ?_
      refine lv_iload_n hx hb d_ST_back_4 rfl (lv_at hl 1 rfl) ?_
      refine lv_icmp_le (tgt := 44) hx hb d_ST_back_5 (by decide) (fun _ => ?_) (fun z => absurd (Int32.le_refl _) z)
      obtain ⟨k2, rfl⟩ : ∃ k2, tc = t0 + k2 := ⟨tc - t0, by omega⟩
      exact loop2 k2 T H locs (Nat.le_refl _) rfl hP hD hS
    | succ k ih =>
      intro V1 H locs hk e1 hP hD hS
      obtain ⟨y, hy, ey⟩ := hCH (c0 + k) (by omega)
      refine lv_aload_n hx hb d_ST_back_0 rfl (lv_at hl 0 rfl) ?_
      refine sx_get C0 hP 0 rfl rfl 7 (by decide) f_ST_39 rfl rfl d_ST_back_1 ?_
      refine lv_iload_n hx hb d_ST_back_4 rfl (lv_at hl 1 rfl) ?_
      refine lv_icmp_le (tgt := 44) hx hb d_ST_back_5 (by decide) (fun z => absurd z (nI_ge (show c0 < c0 + (k + 1) by omega) (by omega))) (fun _ => ?_)
      refine lv_aload_n hx hb d_ST_back_8 rfl (lv_at hl 0 rfl) ?_
      refine lv_dup hx hb d_ST_back_9 rfl ?_
      refine sx_get C0 hP 0 rfl rfl 7 (by decide) f_ST_39 rfl rfl d_ST_back_10 ?_
      refine lv_iconst (v := 1) hx hb d_ST_back_13 (by decide) ?_
      refine lv_isub hx hb d_ST_back_14 ?_
      refine sx_topi (y := nI (c0 + k)) (nI_pred (c0 + k)) ?_
      refine sx_put (ty := .int) C0 hP hD hS 0 rfl rfl 7 (by decide) f_ST_39 rfl rfl (by decide +kernel) rfl rfl (Nat.le_of_ble_eq_true rfl) d_ST_back_15 (fun H locs hP hD hS => ?_)
      have hP : va_P G.1 sx_cls ([(ad 1, .inr (1, [.ref (ad 5), .ref (ad 6), .ref (ad 7), .ref (ad 8), .int (nI tc), .ref qc, .ref qb, .int (nI (c0 + k)), .int rf])), (ad 5, .inl (G.2 1, 256, .inr (.inl V1))), (ad 6, .inl (G.2 1, 256, .inr (.inl F))), (ad 7, .inl (G.2 2, 256, .inl T)), (ad 8, .inl (G.2 0, 256, .inl L)), (qc, .inl (G.2 0, n, .inl CH)), (qb, .inl (G.2 1, n, .inr (.inl BE)))]) H := hP
      have hD : va_D A ([(ad 1, .inr (1, [.ref (ad 5), .ref (ad 6), .ref (ad 7), .ref (ad 8), .int (nI tc), .ref qc, .ref qb, .int (nI (c0 + k)), .int rf])), (ad 5, .inl (G.2 1, 256, .inr (.inl V1))), (ad 6, .inl (G.2 1, 256, .inr (.inl F))), (ad 7, .inl (G.2 2, 256, .inl T)), (ad 8, .inl (G.2 0, 256, .inl L)), (qc, .inl (G.2 0, n, .inl CH)), (qb, .inl (G.2 1, n, .inr (.inl BE)))]) := hD
      refine lv_aload_n hx hb d_ST_back_18 rfl (lv_at hl 0 rfl) ?_
      refine sx_get C0 hP 0 rfl rfl 0 (by decide) f_ST_9 rfl rfl d_ST_back_19 ?_
      refine lv_aload_n hx hb d_ST_back_22 rfl (lv_at hl 0 rfl) ?_
      refine sx_get C0 hP 0 rfl rfl 5 (by decide) f_ST_26 rfl rfl d_ST_back_23 ?_
      refine lv_aload_n hx hb d_ST_back_26 rfl (lv_at hl 0 rfl) ?_
      refine sx_get C0 hP 0 rfl rfl 7 (by decide) f_ST_39 rfl rfl d_ST_back_27 ?_
      refine sx_iald (i := c0 + k) (v := nI y) C0 hP 5 rfl rfl (show c0 + k < n by omega) hn ey d_ST_back_30 ?_
      refine lv_aload_n hx hb d_ST_back_31 rfl (lv_at hl 0 rfl) ?_
      refine sx_get C0 hP 0 rfl rfl 6 (by decide) f_ST_29 rfl rfl d_ST_back_32 ?_
      refine lv_aload_n hx hb d_ST_back_35 rfl (lv_at hl 0 rfl) ?_
      refine sx_get C0 hP 0 rfl rfl 7 (by decide) f_ST_39 rfl rfl d_ST_back_36 ?_
      refine sx_lald (i := c0 + k) (v := BE (c0 + k)) C0 hP 6 rfl rfl (show c0 + k < n by omega) hn rfl d_ST_back_39 ?_
      refine sx_last (i := y) C0 hP hD hS 1 rfl rfl hy (by decide) d_ST_back_40 (fun H locs hP hD hS => ?_)
      have hP : va_P G.1 sx_cls ([(ad 1, .inr (1, [.ref (ad 5), .ref (ad 6), .ref (ad 7), .ref (ad 8), .int (nI tc), .ref qc, .ref qb, .int (nI (c0 + k)), .int rf])), (ad 5, .inl (G.2 1, 256, .inr (.inl (vp_updL V1 y (BE (c0 + k)))))), (ad 6, .inl (G.2 1, 256, .inr (.inl F))), (ad 7, .inl (G.2 2, 256, .inl T)), (ad 8, .inl (G.2 0, 256, .inl L)), (qc, .inl (G.2 0, n, .inl CH)), (qb, .inl (G.2 1, n, .inr (.inl BE)))]) H := hP
      have hD : va_D A ([(ad 1, .inr (1, [.ref (ad 5), .ref (ad 6), .ref (ad 7), .ref (ad 8), .int (nI tc), .ref qc, .ref qb, .int (nI (c0 + k)), .int rf])), (ad 5, .inl (G.2 1, 256, .inr (.inl (vp_updL V1 y (BE (c0 + k)))))), (ad 6, .inl (G.2 1, 256, .inr (.inl F))), (ad 7, .inl (G.2 2, 256, .inl T)), (ad 8, .inl (G.2 0, 256, .inl L)), (qc, .inl (G.2 0, n, .inl CH)), (qb, .inl (G.2 1, n, .inr (.inl BE)))]) := hD
      refine lv_goto (tgt := 0) hx hb d_ST_back_41 (by decide) ?_
      refine ih (vp_updL V1 y (BE (c0 + k))) H locs (by omega) ?_ hP hD hS
      rw [← e1, show c0 + (k + 1) = c0 + k + 1 from rfl, p_und_s, ey, nI_clamp (by omega)]
  obtain ⟨k1, rfl⟩ : ∃ k1, cd = c0 + k1 := ⟨cd - c0, by omega⟩
  exact loop1 k1 V s.heap [] (Nat.le_refl _) rfl hP hD hS
end ST2
end
section
/-! longer; Storage: begin, store, the constructor -/
theorem sx_oi_SC : Jvm.Cond.methodLink sx_SC 1 objectInit ∈ lw_tbl := sx_tb (i := 19) rfl
theorem sx_oi_ST : Jvm.Cond.methodLink sx_ST 3 objectInit ∈ lw_tbl := sx_tb (i := 27) rfl
theorem sx_oi_MD : Jvm.Cond.methodLink sx_MD 1 objectInit ∈ lw_tbl := sx_tb (i := 290) rfl
theorem sx_oi1 : Jvm.Cond.instanceMethod objectInit ∈ lw_tbl := sx_tb (i := 20) rfl
theorem sx_oi2 : Jvm.Cond.code objectInit ⟨#[0xb1]⟩ 1 none ∈ lw_tbl := sx_tb (i := 21) rfl
section SXO
variable {p : Program} {l : Launch} {e : Env} {R : Room} {s : State} {m : MethodId} {args : Array Value} {below : List Frame} {meth : Method} {c : Code} {H : Heap} {locs : List Loc} {cells slots : Nat} {Q : State → Prop} {cc : ByteArray} {nL : Nat} {own : String} {G : sx_G} {pc : Nat} {ls : Array Slot} {rest : List Value}
theorem sx_objInit (C0 : sx_C p s m c cc nL own G) {idx a : Nat} (hl : Jvm.Cond.methodLink own idx objectInit ∈ lw_tbl) (hsz : ls.size = nL) (hW : (rest.map fun v => v.category).sum ≤ 8) (hR : 1 ≤ R.frames ∧ 20 ≤ R.locals) (hdg : decode cc pc = .ok (.invokespecial idx, 3))
    (kk : W p l e R s m args below meth c H locs cells slots Q (F0 m (pc + 3) ls rest)) : W p l e R s m args below meth c H locs cells slots Q (F0 m pc ls (.ref a :: rest)) := by
  have hTB := C0.2.2.2.2.1
  exact W.objInit C0.1 C0.2.1 C0.2.2.2.1 (hTB.use hl (Or.inl rfl) args) (hTB.use sx_oi1 (Or.inl rfl) args) (hTB.use sx_oi2 (Or.inl rfl) args) rfl (hsz.trans C0.2.2.1.symm) rfl hdg hR.1 (by have := lv_room (m := m) (pc := pc) (ls := ls) (rest := rest) hW; show 2 * 0 + _ + 12 ≤ _; omega) kk
end SXO
theorem sx_arrE {cA : ClassId} {n : Nat} {f g : Nat → Value} (h : ∀ j, j < n → f j = g j) : arrV cA n f = arrV cA n g := by
  unfold arrV
  congr 1
  apply Array.ext
  · simp
  · intro j h1 h2
    simp only [Array.getElem_ofFn]
    exact h j (by simpa using h1)
theorem sx_extA {D : va_G} {cl : List vw_C} {ws : va_W} {H : Heap} {k a : Nat} {e0 e1 : ClassId × vp_A} (hP : va_P D cl ws H) (he : ws[k]? = some (a, .inl e0)) (h : vp_cell e0.1 e0.2 = vp_cell e1.1 e1.2) : va_P D cl (ws.set k (a, .inl e1)) H := by
  intro j q hj
  by_cases hjk : j = k
  · subst hjk
    rw [List.getElem?_set_self (List.getElem?_eq_some_iff.mp he).1] at hj
    cases hj
    have := hP j _ he
    show H[a]? = some (vp_cell e1.1 e1.2)
    rw [← h]; exact this
  · rw [List.getElem?_set_ne (Ne.symm hjk)] at hj
    exact hP j q hj
theorem sx_cellL {cA : ClassId} {n : Nat} {f g : Nat → Int64} (h : ∀ j, j < n → f j = g j) : vp_cell cA (n, .inr (.inl f)) = vp_cell cA (n, .inr (.inl g)) := by
  rw [vp_cell_l, vp_cell_l]
  exact sx_arrE (fun j hj => by rw [h j hj])
theorem sx_cellI {cA : ClassId} {n : Nat} {f g : Nat → Int32} (h : ∀ j, j < n → f j = g j) : vp_cell cA (n, .inl f) = vp_cell cA (n, .inl g) := by
  rw [vp_cell_i, vp_cell_i]
  exact sx_arrE (fun j hj => by rw [h j hj])
/-- the first i of f, the rest of g -/
def p_mix {α : Type} (f g : Nat → α) (i : Nat) : Nat → α := fun j => if j < i then f j else g j
theorem p_mix_lt {α : Type} {f g : Nat → α} {i j : Nat} (h : j < i) : p_mix f g i j = f j := if_pos h
theorem p_mix_0 {α : Type} (f g : Nat → α) : p_mix f g 0 = g := by
  funext j
  exact if_neg (Nat.not_lt_zero j)
theorem p_mixI (f g : Nat → Int32) (i : Nat) : upd (p_mix f g i) i (f i) = p_mix f g (i + 1) := by
  funext j
  unfold upd p_mix
  by_cases h1 : j = i
  · subst h1; rw [if_pos rfl, if_pos (Nat.lt_succ_self _)]
  · rw [if_neg h1]
    by_cases h2 : j < i
    · rw [if_pos h2, if_pos (by omega)]
    · rw [if_neg h2, if_neg (by omega)]
theorem p_mixL (f g : Nat → Int64) (i : Nat) : vp_updL (p_mix f g i) i (f i) = p_mix f g (i + 1) := by
  funext j
  unfold vp_updL p_mix
  by_cases h1 : j = i
  · subst h1; rw [if_pos rfl, if_pos (Nat.lt_succ_self _)]
  · rw [if_neg h1]
    by_cases h2 : j < i
    · rw [if_pos h2, if_pos (by omega)]
    · rw [if_neg h2, if_neg (by omega)]
theorem c_SC_longerI {l : Launch} {G : sx_G} {q0 n : Nat} {f : Nat → Int32} (hn : 0 < n) (hn2 : n ≤ 4096) : sx_Ctr l y_SC_longerI w_SC_longerI (sx_rm 0 1 (2 * n) 0) G [.ref q0] [(q0, .inl (G.2 0, n, .inl f))] (fun v A H => ∃ (q : Nat) (g : Nat → Int32), v = some (.ref q) ∧ (∀ i, i < n → g i = f i) ∧ va_P G.1 sx_cls [(q0, .inl (G.2 0, n, .inl f)), (q, .inl (G.2 0, 2 * n, .inl g))] H ∧ va_D A [(q0, .inl (G.2 0, n, .inl f)), (q, .inl (G.2 0, 2 * n, .inl g))]) := by
  refine sx_Ctr.of (by decide +kernel) (Nat.le_of_ble_eq_true rfl) ?_
  intro p e s m below meth c9 ls A C0 hr hlk hnm hl hP hD hA hS
  have C0 : sx_C p s m c9 b_SC_longerI 3 sx_SC G := C0
  have hx := C0.1
  have hb := C0.2.1
  have hl : lv_has ls 3 [(0, .ref q0)] := hl
  refine lv_iconst (v := nI 2) hx hb d_SC_longerI_0 (by decide +kernel) ?_
  refine lv_aload_n hx hb d_SC_longerI_1 rfl (lv_at hl 0 rfl) ?_
  refine sx_alen (t0 := 0) C0 hP 0 rfl rfl (v := nI n) rfl d_SC_longerI_2 ?_
  refine lv_imul hx hb d_SC_longerI_3 ?_
  refine sx_topi (y := nI (2 * n)) (pk_mul 2 n) ?_
  refine sx_newa (ty := .int) (N' := 2 * n) (a0 := (2 * n, .inl (fun _ => 0))) C0 rfl 0 rfl (fun cA => sx_ra_prim (Or.inl rfl) cA _) sx_ac_int hP hD hS hA (fun _ => rfl) rfl (show 2 * n * 4 ≤ 536870912 by omega) (by omega) (Nat.le_of_ble_eq_true rfl) (show 0 + 2 * n ≤ 2 * n by omega) d_SC_longerI_4 (fun q H hP hD hS => ?_)
  have hP : va_P G.1 sx_cls ([(q0, .inl (G.2 0, n, .inl f)), (q, .inl (G.2 0, 2 * n, .inl (fun _ => 0)))]) H := hP
  have hD : va_D A ([(q0, .inl (G.2 0, n, .inl f)), (q, .inl (G.2 0, 2 * n, .inl (fun _ => 0)))]) := hD
  refine W.widen (k := 1) (n := 2 * n) (by omega) (by omega) ?_
  refine lv_astore_n hx hb d_SC_longerI_6 rfl hl (by decide) rfl (fun ls hl => ?_)
  have hl : lv_has ls 3 [(1, .ref q), (0, .ref q0)] := hl
  refine lv_iconst (v := nI 0) hx hb d_SC_longerI_7 (by decide +kernel) ?_
  refine lv_istore_n hx hb d_SC_longerI_8 rfl hl (by decide) rfl (fun ls hl => ?_)
  have hl : lv_has ls 3 [(2, .int (nI 0)), (1, .ref q), (0, .ref q0)] := hl
  have loop : ∀ (k i : Nat) (ls : Array Slot) (H : Heap) (locs : List Loc), i + k = n → lv_has ls 3 [(2, .int (nI i)), (1, .ref q), (0, .ref q0)] → va_P G.1 sx_cls [(q0, .inl (G.2 0, n, .inl f)), (q, .inl (G.2 0, 2 * n, .inl (p_mix f (fun _ => 0) i)))] H → va_D A [(q0, .inl (G.2 0, n, .inl f)), (q, .inl (G.2 0, 2 * n, .inl (p_mix f (fun _ => 0) i)))] → va_S A s.heap H locs → W p l e (sx_rm 0 1 (2 * n) 0) s m ([.ref q0] : List Value).toArray below meth c9 H locs 1 (2 * n) (MQ below (sx_Q (fun (v : Option Value) (A : Nat → Prop) (H : Heap) => ∃ (q : Nat) (g : Nat → Int32), v = some (.ref q) ∧ (∀ i, i < n → g i = f i) ∧ va_P G.1 sx_cls [(q0, .inl (G.2 0, n, .inl f)), (q, .inl (G.2 0, 2 * n, .inl g))] H ∧ va_D A [(q0, .inl (G.2 0, n, .inl f)), (q, .inl (G.2 0, 2 * n, .inl g))]) A) ([.ref q0] : List Value).toArray s 1 (2 * n) A) (F0 m 9 ls []) := by
    intro k
    induction k with
    | zero =>
      intro i ls H locs hi hl hP hD hS
      have e1 : i = n := hi
      subst e1
      refine lv_iload_n hx hb d_SC_longerI_9 rfl (lv_at hl 0 rfl) ?_
      refine lv_aload_n hx hb d_SC_longerI_10 rfl (lv_at hl 2 rfl) ?_
      refine sx_alen (t0 := 0) C0 hP 0 rfl rfl (v := nI i) rfl d_SC_longerI_11 ?_
      refine lv_icmp_ge (tgt := 27) hx hb d_SC_longerI_12 (by decide) (fun _ => ?_) (fun z => absurd (Int32.le_refl _) z)
      refine lv_aload_n hx hb d_SC_longerI_27 rfl (lv_at hl 1 rfl) ?_
      exact sx_aret C0 hr hlk hS ⟨q, _, rfl, fun j hj => p_mix_lt hj, hP, hD⟩ d_SC_longerI_28
    | succ k ih =>
      intro i ls H locs hi hl hP hD hS
      refine lv_iload_n hx hb d_SC_longerI_9 rfl (lv_at hl 0 rfl) ?_
      refine lv_aload_n hx hb d_SC_longerI_10 rfl (lv_at hl 2 rfl) ?_
      refine sx_alen (t0 := 0) C0 hP 0 rfl rfl (v := nI n) rfl d_SC_longerI_11 ?_
      refine lv_icmp_ge (tgt := 27) hx hb d_SC_longerI_12 (by decide) (fun z => absurd z (nI_ge (show i < n by omega) (by omega))) (fun _ => ?_)
      refine lv_aload_n hx hb d_SC_longerI_15 rfl (lv_at hl 1 rfl) ?_
      refine lv_iload_n hx hb d_SC_longerI_16 rfl (lv_at hl 0 rfl) ?_
      refine lv_aload_n hx hb d_SC_longerI_17 rfl (lv_at hl 2 rfl) ?_
      refine lv_iload_n hx hb d_SC_longerI_18 rfl (lv_at hl 0 rfl) ?_
      refine sx_iald (i := i) (v := f i) C0 hP 0 rfl rfl (show i < n by omega) (by omega) rfl d_SC_longerI_19 ?_
      refine sx_iast (i := i) C0 hP hD hS 1 rfl rfl (show i < 2 * n by omega) (by omega) d_SC_longerI_20 (fun H locs hP hD hS => ?_)
      rw [p_mixI] at hP hD
      have hP : va_P G.1 sx_cls ([(q0, .inl (G.2 0, n, .inl f)), (q, .inl (G.2 0, 2 * n, .inl (p_mix f (fun _ => 0) (i + 1))))]) H := hP
      have hD : va_D A ([(q0, .inl (G.2 0, n, .inl f)), (q, .inl (G.2 0, 2 * n, .inl (p_mix f (fun _ => 0) (i + 1))))]) := hD
      refine lv_iinc (k := 0) (v := nI (i + 1)) hx hb d_SC_longerI_21 hl rfl (nI_1 i) (by decide) rfl (fun ls hl => ?_)
      have hl : lv_has ls 3 [(2, .int (nI (i + 1))), (1, .ref q), (0, .ref q0)] := hl
      refine lv_goto (tgt := 9) hx hb d_SC_longerI_24 (by decide) ?_
      exact ih (i + 1) ls H locs (by omega) hl hP hD hS
  rw [show (fun _ => 0 : Nat → Int32) = p_mix f (fun _ => 0) 0 from (p_mix_0 f _).symm] at hP hD
  exact loop n 0 ls H _ (Nat.zero_add n) hl hP hD hS
theorem c_SC_longerJ {l : Launch} {G : sx_G} {q0 n : Nat} {f : Nat → Int64} (hn : 0 < n) (hn2 : n ≤ 4096) : sx_Ctr l y_SC_longerJ w_SC_longerJ (sx_rm 0 1 (2 * n) 0) G [.ref q0] [(q0, .inl (G.2 1, n, .inr (.inl f)))] (fun v A H => ∃ (q : Nat) (g : Nat → Int64), v = some (.ref q) ∧ (∀ i, i < n → g i = f i) ∧ va_P G.1 sx_cls [(q0, .inl (G.2 1, n, .inr (.inl f))), (q, .inl (G.2 1, 2 * n, .inr (.inl g)))] H ∧ va_D A [(q0, .inl (G.2 1, n, .inr (.inl f))), (q, .inl (G.2 1, 2 * n, .inr (.inl g)))]) := by
  refine sx_Ctr.of (by decide +kernel) (Nat.le_of_ble_eq_true rfl) ?_
  intro p e s m below meth c9 ls A C0 hr hlk hnm hl hP hD hA hS
  have C0 : sx_C p s m c9 b_SC_longerJ 3 sx_SC G := C0
  have hx := C0.1
  have hb := C0.2.1
  have hl : lv_has ls 3 [(0, .ref q0)] := hl
  refine lv_iconst (v := nI 2) hx hb d_SC_longerJ_0 (by decide +kernel) ?_
  refine lv_aload_n hx hb d_SC_longerJ_1 rfl (lv_at hl 0 rfl) ?_
  refine sx_alen (t0 := 1) C0 hP 0 rfl rfl (v := nI n) rfl d_SC_longerJ_2 ?_
  refine lv_imul hx hb d_SC_longerJ_3 ?_
  refine sx_topi (y := nI (2 * n)) (pk_mul 2 n) ?_
  refine sx_newa (ty := .long) (N' := 2 * n) (a0 := (2 * n, .inr (.inl (fun _ => 0)))) C0 rfl 1 rfl (fun cA => sx_ra_prim (Or.inr (Or.inl rfl)) cA _) sx_ac_long hP hD hS hA (fun _ => rfl) rfl (show 2 * n * 8 ≤ 536870912 by omega) (by omega) (Nat.le_of_ble_eq_true rfl) (show 0 + 2 * n ≤ 2 * n by omega) d_SC_longerJ_4 (fun q H hP hD hS => ?_)
  have hP : va_P G.1 sx_cls ([(q0, .inl (G.2 1, n, .inr (.inl f))), (q, .inl (G.2 1, 2 * n, .inr (.inl (fun _ => 0))))]) H := hP
  have hD : va_D A ([(q0, .inl (G.2 1, n, .inr (.inl f))), (q, .inl (G.2 1, 2 * n, .inr (.inl (fun _ => 0))))]) := hD
  refine W.widen (k := 1) (n := 2 * n) (by omega) (by omega) ?_
  refine lv_astore_n hx hb d_SC_longerJ_6 rfl hl (by decide) rfl (fun ls hl => ?_)
  have hl : lv_has ls 3 [(1, .ref q), (0, .ref q0)] := hl
  refine lv_iconst (v := nI 0) hx hb d_SC_longerJ_7 (by decide +kernel) ?_
  refine lv_istore_n hx hb d_SC_longerJ_8 rfl hl (by decide) rfl (fun ls hl => ?_)
  have hl : lv_has ls 3 [(2, .int (nI 0)), (1, .ref q), (0, .ref q0)] := hl
  have loop : ∀ (k i : Nat) (ls : Array Slot) (H : Heap) (locs : List Loc), i + k = n → lv_has ls 3 [(2, .int (nI i)), (1, .ref q), (0, .ref q0)] → va_P G.1 sx_cls [(q0, .inl (G.2 1, n, .inr (.inl f))), (q, .inl (G.2 1, 2 * n, .inr (.inl (p_mix f (fun _ => 0) i))))] H → va_D A [(q0, .inl (G.2 1, n, .inr (.inl f))), (q, .inl (G.2 1, 2 * n, .inr (.inl (p_mix f (fun _ => 0) i))))] → va_S A s.heap H locs → W p l e (sx_rm 0 1 (2 * n) 0) s m ([.ref q0] : List Value).toArray below meth c9 H locs 1 (2 * n) (MQ below (sx_Q (fun (v : Option Value) (A : Nat → Prop) (H : Heap) => ∃ (q : Nat) (g : Nat → Int64), v = some (.ref q) ∧ (∀ i, i < n → g i = f i) ∧ va_P G.1 sx_cls [(q0, .inl (G.2 1, n, .inr (.inl f))), (q, .inl (G.2 1, 2 * n, .inr (.inl g)))] H ∧ va_D A [(q0, .inl (G.2 1, n, .inr (.inl f))), (q, .inl (G.2 1, 2 * n, .inr (.inl g)))]) A) ([.ref q0] : List Value).toArray s 1 (2 * n) A) (F0 m 9 ls []) := by
    intro k
    induction k with
    | zero =>
      intro i ls H locs hi hl hP hD hS
      have e1 : i = n := hi
      subst e1
      refine lv_iload_n hx hb d_SC_longerJ_9 rfl (lv_at hl 0 rfl) ?_
      refine lv_aload_n hx hb d_SC_longerJ_10 rfl (lv_at hl 2 rfl) ?_
      refine sx_alen (t0 := 1) C0 hP 0 rfl rfl (v := nI i) rfl d_SC_longerJ_11 ?_
      refine lv_icmp_ge (tgt := 27) hx hb d_SC_longerJ_12 (by decide) (fun _ => ?_) (fun z => absurd (Int32.le_refl _) z)
      refine lv_aload_n hx hb d_SC_longerJ_27 rfl (lv_at hl 1 rfl) ?_
      exact sx_aret C0 hr hlk hS ⟨q, _, rfl, fun j hj => p_mix_lt hj, hP, hD⟩ d_SC_longerJ_28
    | succ k ih =>
      intro i ls H locs hi hl hP hD hS
      refine lv_iload_n hx hb d_SC_longerJ_9 rfl (lv_at hl 0 rfl) ?_
      refine lv_aload_n hx hb d_SC_longerJ_10 rfl (lv_at hl 2 rfl) ?_
      refine sx_alen (t0 := 1) C0 hP 0 rfl rfl (v := nI n) rfl d_SC_longerJ_11 ?_
      refine lv_icmp_ge (tgt := 27) hx hb d_SC_longerJ_12 (by decide) (fun z => absurd z (nI_ge (show i < n by omega) (by omega))) (fun _ => ?_)
      refine lv_aload_n hx hb d_SC_longerJ_15 rfl (lv_at hl 1 rfl) ?_
      refine lv_iload_n hx hb d_SC_longerJ_16 rfl (lv_at hl 0 rfl) ?_
      refine lv_aload_n hx hb d_SC_longerJ_17 rfl (lv_at hl 2 rfl) ?_
      refine lv_iload_n hx hb d_SC_longerJ_18 rfl (lv_at hl 0 rfl) ?_
      refine sx_lald (i := i) (v := f i) C0 hP 0 rfl rfl (show i < n by omega) (by omega) rfl d_SC_longerJ_19 ?_
      refine sx_last (i := i) C0 hP hD hS 1 rfl rfl (show i < 2 * n by omega) (by omega) d_SC_longerJ_20 (fun H locs hP hD hS => ?_)
      rw [p_mixL] at hP hD
      have hP : va_P G.1 sx_cls ([(q0, .inl (G.2 1, n, .inr (.inl f))), (q, .inl (G.2 1, 2 * n, .inr (.inl (p_mix f (fun _ => 0) (i + 1)))))]) H := hP
      have hD : va_D A ([(q0, .inl (G.2 1, n, .inr (.inl f))), (q, .inl (G.2 1, 2 * n, .inr (.inl (p_mix f (fun _ => 0) (i + 1)))))]) := hD
      refine lv_iinc (k := 0) (v := nI (i + 1)) hx hb d_SC_longerJ_21 hl rfl (nI_1 i) (by decide) rfl (fun ls hl => ?_)
      have hl : lv_has ls 3 [(2, .int (nI (i + 1))), (1, .ref q), (0, .ref q0)] := hl
      refine lv_goto (tgt := 9) hx hb d_SC_longerJ_24 (by decide) ?_
      exact ih (i + 1) ls H locs (by omega) hl hP hD hS
  rw [show (fun _ => 0 : Nat → Int64) = p_mix f (fun _ => 0) 0 from (p_mix_0 f _).symm] at hP hD
  exact loop n 0 ls H _ (Nat.zero_add n) hl hP hD hS
section ST3
variable {l : Launch} {G : sx_G} {ad : Nat → Nat} {qc qb : Nat} {V F : Nat → Int64} {T L : Nat → Int32} {tc n : Nat} {CH : Nat → Int32} {BE : Nat → Int64} {cd : Nat} {rf : Int32}
theorem c_ST_begin (hcn : cd ≤ n) (hn : n < 2 ^ 31) (htc : tc ≤ 256) (hCH : p_ix CH cd) (hL : p_ix L tc) : sx_Ctr l y_ST_begin w_ST_begin (sx_rm 1 0 0 23) G [.ref (ad 1)] (wST G ad qc qb V F T L tc n CH BE cd rf) (sx_is G none (wST G ad qc qb V V (p_unt L 0 tc T) L 0 n CH BE 0 0)) := by
  refine sx_Ctr.of (by decide +kernel) (Nat.le_of_ble_eq_true rfl) ?_
  intro p e s m below meth c9 ls A C0 hr hlk hnm hl hP hD hA hS
  have C0 : sx_C p s m c9 b_ST_begin 2 sx_ST G := C0
  have hx := C0.1
  have hb := C0.2.1
  have hl : lv_has ls 2 [(0, .ref (ad 1))] := hl
  refine lv_aload_n hx hb d_ST_begin_0 rfl (lv_at hl 0 rfl) ?_
  refine lv_aload_n hx hb d_ST_begin_1 rfl (lv_at hl 0 rfl) ?_
  refine sx_get C0 hP 0 rfl rfl 7 (by decide) f_ST_39 rfl rfl d_ST_begin_2 ?_
  refine lv_iconst (v := nI 0) hx hb d_ST_begin_5 (by decide +kernel) ?_
  refine lv_iconst (v := 0) hx hb d_ST_begin_6 (by decide) ?_
  refine sx_cV (As := [.int (nI cd), .int (nI 0), .int 0]) (rest := []) (wa := []) (wb := []) (k0 := 0) C0 (c_ST_back (Nat.le_refl cd) (Nat.zero_le tc) hcn hn htc hCH hL) q_ST_42 i_ST_back ⟨Nat.le_of_ble_eq_true rfl, Nat.le_of_ble_eq_true rfl⟩ rfl rfl rfl hP hD hS hA hl.1 rfl (Nat.zero_le _) d_ST_begin_7 ⟨Nat.le_of_ble_eq_true rfl, Nat.le_of_ble_eq_true rfl⟩ (fun v H locs hq hj hS => ?_)
  obtain ⟨rfl, hP1, hD1⟩ := hq
  obtain ⟨hP, hD⟩ := hj _ hP1 hD1
  rw [p_und_0] at hP hD
  have hP : va_P G.1 sx_cls ([(ad 1, .inr (1, [.ref (ad 5), .ref (ad 6), .ref (ad 7), .ref (ad 8), .int (nI 0), .ref qc, .ref qb, .int (nI cd), .int 0])), (ad 5, .inl (G.2 1, 256, .inr (.inl V))), (ad 6, .inl (G.2 1, 256, .inr (.inl F))), (ad 7, .inl (G.2 2, 256, .inl (p_unt L 0 tc T))), (ad 8, .inl (G.2 0, 256, .inl L)), (qc, .inl (G.2 0, n, .inl CH)), (qb, .inl (G.2 1, n, .inr (.inl BE)))]) H := hP
  have hD : va_D A ([(ad 1, .inr (1, [.ref (ad 5), .ref (ad 6), .ref (ad 7), .ref (ad 8), .int (nI 0), .ref qc, .ref qb, .int (nI cd), .int 0])), (ad 5, .inl (G.2 1, 256, .inr (.inl V))), (ad 6, .inl (G.2 1, 256, .inr (.inl F))), (ad 7, .inl (G.2 2, 256, .inl (p_unt L 0 tc T))), (ad 8, .inl (G.2 0, 256, .inl L)), (qc, .inl (G.2 0, n, .inl CH)), (qb, .inl (G.2 1, n, .inr (.inl BE)))]) := hD
  refine lv_aload_n hx hb d_ST_begin_10 rfl (lv_at hl 0 rfl) ?_
  refine lv_iconst (v := nI 0) hx hb d_ST_begin_11 (by decide +kernel) ?_
  refine sx_put (ty := .int) C0 hP hD hS 0 rfl rfl 7 (by decide) f_ST_39 rfl rfl (by decide +kernel) rfl rfl (Nat.le_of_ble_eq_true rfl) d_ST_begin_12 (fun H locs hP hD hS => ?_)
  have hP : va_P G.1 sx_cls ([(ad 1, .inr (1, [.ref (ad 5), .ref (ad 6), .ref (ad 7), .ref (ad 8), .int (nI 0), .ref qc, .ref qb, .int (nI 0), .int 0])), (ad 5, .inl (G.2 1, 256, .inr (.inl V))), (ad 6, .inl (G.2 1, 256, .inr (.inl F))), (ad 7, .inl (G.2 2, 256, .inl (p_unt L 0 tc T))), (ad 8, .inl (G.2 0, 256, .inl L)), (qc, .inl (G.2 0, n, .inl CH)), (qb, .inl (G.2 1, n, .inr (.inl BE)))]) H := hP
  have hD : va_D A ([(ad 1, .inr (1, [.ref (ad 5), .ref (ad 6), .ref (ad 7), .ref (ad 8), .int (nI 0), .ref qc, .ref qb, .int (nI 0), .int 0])), (ad 5, .inl (G.2 1, 256, .inr (.inl V))), (ad 6, .inl (G.2 1, 256, .inr (.inl F))), (ad 7, .inl (G.2 2, 256, .inl (p_unt L 0 tc T))), (ad 8, .inl (G.2 0, 256, .inl L)), (qc, .inl (G.2 0, n, .inl CH)), (qb, .inl (G.2 1, n, .inr (.inl BE)))]) := hD
  refine lv_iconst (v := nI 0) hx hb d_ST_begin_15 (by decide +kernel) ?_
  refine lv_istore_n hx hb d_ST_begin_16 rfl hl (by decide) rfl (fun ls hl => ?_)
  have hl : lv_has ls 2 [(1, .int (nI 0)), (0, .ref (ad 1))] := hl
  have loop : ∀ (k i : Nat) (ls : Array Slot) (H : Heap) (locs : List Loc), i + k = 256 → lv_has ls 2 [(1, .int (nI i)), (0, .ref (ad 1))] → va_P G.1 sx_cls (wST G ad qc qb V (p_mix V F i) (p_unt L 0 tc T) L 0 n CH BE 0 0) H → va_D A (wST G ad qc qb V (p_mix V F i) (p_unt L 0 tc T) L 0 n CH BE 0 0) → va_S A s.heap H locs → W p l e (sx_rm 1 0 0 23) s m ([.ref (ad 1)] : List Value).toArray below meth c9 H locs 0 0 (MQ below (sx_Q (sx_is G none (wST G ad qc qb V V (p_unt L 0 tc T) L 0 n CH BE 0 0)) A) ([.ref (ad 1)] : List Value).toArray s 0 0 A) (F0 m 17 ls []) := by
    intro k
    induction k with
    | zero =>
      intro i ls H locs hi hl hP hD hS
      have e1 : i = 256 := hi
      subst e1
      refine lv_iload_n hx hb d_ST_begin_17 rfl (lv_at hl 0 rfl) ?_
      refine lv_sipush (v := nI 256) hx hb d_ST_begin_18 (by decide +kernel) ?_
      refine lv_icmp_ge (tgt := 42) hx hb d_ST_begin_21 (by decide) (fun _ => ?_) (fun z => absurd (Int32.le_refl _) z)
      have hP : va_P G.1 sx_cls (wST G ad qc qb V V (p_unt L 0 tc T) L 0 n CH BE 0 0) H := sx_extA (k := 2) (e1 := (G.2 1, 256, .inr (.inl V))) hP rfl (sx_cellL (fun j hj => p_mix_lt hj))
      have hD : va_D A (wST G ad qc qb V V (p_unt L 0 tc T) L 0 n CH BE 0 0) := va_D.set (p := 2) hD rfl
      exact sx_vret C0 hr hlk hS ⟨rfl, hP, hD⟩ d_ST_begin_42
    | succ k ih =>
      intro i ls H locs hi hl hP hD hS
      refine lv_iload_n hx hb d_ST_begin_17 rfl (lv_at hl 0 rfl) ?_
      refine lv_sipush (v := nI 256) hx hb d_ST_begin_18 (by decide +kernel) ?_
      refine lv_icmp_ge (tgt := 42) hx hb d_ST_begin_21 (by decide) (fun z => absurd z (nI_ge (show i < 256 by omega) (by decide))) (fun _ => ?_)
      refine lv_aload_n hx hb d_ST_begin_24 rfl (lv_at hl 1 rfl) ?_
      refine sx_get C0 hP 0 rfl rfl 1 (by decide) f_ST_15 rfl rfl d_ST_begin_25 ?_
      refine lv_iload_n hx hb d_ST_begin_28 rfl (lv_at hl 0 rfl) ?_
      refine lv_aload_n hx hb d_ST_begin_29 rfl (lv_at hl 1 rfl) ?_
      refine sx_get C0 hP 0 rfl rfl 0 (by decide) f_ST_9 rfl rfl d_ST_begin_30 ?_
      refine lv_iload_n hx hb d_ST_begin_33 rfl (lv_at hl 0 rfl) ?_
      refine sx_lald (i := i) (v := V i) C0 hP 1 rfl rfl (show i < 256 by omega) (by decide) rfl d_ST_begin_34 ?_
      refine sx_last (i := i) C0 hP hD hS 2 rfl rfl (show i < 256 by omega) (by decide) d_ST_begin_35 (fun H locs hP hD hS => ?_)
      rw [p_mixL] at hP hD
      have hP : va_P G.1 sx_cls ([(ad 1, .inr (1, [.ref (ad 5), .ref (ad 6), .ref (ad 7), .ref (ad 8), .int (nI 0), .ref qc, .ref qb, .int (nI 0), .int 0])), (ad 5, .inl (G.2 1, 256, .inr (.inl V))), (ad 6, .inl (G.2 1, 256, .inr (.inl (p_mix V F (i + 1))))), (ad 7, .inl (G.2 2, 256, .inl (p_unt L 0 tc T))), (ad 8, .inl (G.2 0, 256, .inl L)), (qc, .inl (G.2 0, n, .inl CH)), (qb, .inl (G.2 1, n, .inr (.inl BE)))]) H := hP
      have hD : va_D A ([(ad 1, .inr (1, [.ref (ad 5), .ref (ad 6), .ref (ad 7), .ref (ad 8), .int (nI 0), .ref qc, .ref qb, .int (nI 0), .int 0])), (ad 5, .inl (G.2 1, 256, .inr (.inl V))), (ad 6, .inl (G.2 1, 256, .inr (.inl (p_mix V F (i + 1))))), (ad 7, .inl (G.2 2, 256, .inl (p_unt L 0 tc T))), (ad 8, .inl (G.2 0, 256, .inl L)), (qc, .inl (G.2 0, n, .inl CH)), (qb, .inl (G.2 1, n, .inr (.inl BE)))]) := hD
      refine lv_iinc (k := 0) (v := nI (i + 1)) hx hb d_ST_begin_36 hl rfl (nI_1 i) (by decide) rfl (fun ls hl => ?_)
      have hl : lv_has ls 2 [(1, .int (nI (i + 1))), (0, .ref (ad 1))] := hl
      refine lv_goto (tgt := 17) hx hb d_ST_begin_39 (by decide) ?_
      exact ih (i + 1) ls H locs (by omega) hl hP hD hS
  exact loop 256 0 ls H _ rfl hl (by rw [p_mix_0]; exact hP) (by rw [p_mix_0]; exact hD) hS
theorem c_ST_init {a : Nat} : sx_Ctr l y_ST_init w_ST_init (sx_rm 1 6 1152 20) G [.ref a] [(a, .inr (1, [.null, .null, .null, .null, .int 0, .null, .null, .int 0, .int 0]))] (fun v A H => ∃ q5 q6 q7 q8 qc qb : Nat, v = none ∧ va_P G.1 sx_cls (wST G (fun i => match i with | 1 => a | 5 => q5 | 6 => q6 | 7 => q7 | _ => q8) qc qb (fun _ => 0) (fun _ => 0) (fun _ => 0) (fun _ => 0) 0 64 (fun _ => 0) (fun _ => 0) 0 0) H ∧ va_D A (wST G (fun i => match i with | 1 => a | 5 => q5 | 6 => q6 | 7 => q7 | _ => q8) qc qb (fun _ => 0) (fun _ => 0) (fun _ => 0) (fun _ => 0) 0 64 (fun _ => 0) (fun _ => 0) 0 0)) := by
  refine sx_Ctr.of (by decide +kernel) (Nat.le_of_ble_eq_true rfl) ?_
  intro p e s m below meth c9 ls A C0 hr hlk hnm hl hP hD hA hS
  have C0 : sx_C p s m c9 b_ST_init 1 sx_ST G := C0
  have hx := C0.1
  have hb := C0.2.1
  have hl : lv_has ls 1 [(0, .ref a)] := hl
  refine lv_aload_n hx hb d_ST_init_0 rfl (lv_at hl 0 rfl) ?_
  refine sx_objInit C0 sx_oi_ST hl.1 (Nat.zero_le _) ⟨Nat.le_of_ble_eq_true rfl, Nat.le_of_ble_eq_true rfl⟩ d_ST_init_1 ?_
  refine lv_aload_n hx hb d_ST_init_4 rfl (lv_at hl 0 rfl) ?_
  refine lv_sipush (v := nI 256) hx hb d_ST_init_5 (by decide +kernel) ?_
  refine sx_newa (ty := .long) (N' := 256) (a0 := (256, .inr (.inl (fun _ => 0)))) C0 rfl 1 rfl (fun cA => sx_ra_prim (Or.inr (Or.inl rfl)) cA _) sx_ac_long hP hD hS hA (fun _ => rfl) rfl (by decide) (by decide) (Nat.le_of_ble_eq_true rfl) (Nat.le_of_ble_eq_true rfl) d_ST_init_8 (fun q5 H hP hD hS => ?_)
  have hP : va_P G.1 sx_cls ([(a, .inr (1, [.null, .null, .null, .null, .int 0, .null, .null, .int 0, .int 0])), (q5, .inl (G.2 1, 256, .inr (.inl (fun _ => 0))))]) H := hP
  have hD : va_D A ([(a, .inr (1, [.null, .null, .null, .null, .int 0, .null, .null, .int 0, .int 0])), (q5, .inl (G.2 1, 256, .inr (.inl (fun _ => 0))))]) := hD
  refine sx_putF (ty := .array .long) C0 hnm hP hD hS 0 rfl rfl 0 (by decide) f_ST_9 rfl rfl (by decide +kernel) rfl rfl (Nat.le_of_ble_eq_true rfl) d_ST_init_10 (fun H locs hP hD hS => ?_)
  have hP : va_P G.1 sx_cls ([(a, .inr (1, [.ref q5, .null, .null, .null, .int 0, .null, .null, .int 0, .int 0])), (q5, .inl (G.2 1, 256, .inr (.inl (fun _ => 0))))]) H := hP
  have hD : va_D A ([(a, .inr (1, [.ref q5, .null, .null, .null, .int 0, .null, .null, .int 0, .int 0])), (q5, .inl (G.2 1, 256, .inr (.inl (fun _ => 0))))]) := hD
  refine lv_aload_n hx hb d_ST_init_13 rfl (lv_at hl 0 rfl) ?_
  refine lv_sipush (v := nI 256) hx hb d_ST_init_14 (by decide +kernel) ?_
  refine sx_newa (ty := .long) (N' := 256) (a0 := (256, .inr (.inl (fun _ => 0)))) C0 rfl 1 rfl (fun cA => sx_ra_prim (Or.inr (Or.inl rfl)) cA _) sx_ac_long hP hD hS hA (fun _ => rfl) rfl (by decide) (by decide) (Nat.le_of_ble_eq_true rfl) (Nat.le_of_ble_eq_true rfl) d_ST_init_17 (fun q6 H hP hD hS => ?_)
  have hP : va_P G.1 sx_cls ([(a, .inr (1, [.ref q5, .null, .null, .null, .int 0, .null, .null, .int 0, .int 0])), (q5, .inl (G.2 1, 256, .inr (.inl (fun _ => 0)))), (q6, .inl (G.2 1, 256, .inr (.inl (fun _ => 0))))]) H := hP
  have hD : va_D A ([(a, .inr (1, [.ref q5, .null, .null, .null, .int 0, .null, .null, .int 0, .int 0])), (q5, .inl (G.2 1, 256, .inr (.inl (fun _ => 0)))), (q6, .inl (G.2 1, 256, .inr (.inl (fun _ => 0))))]) := hD
  refine sx_putF (ty := .array .long) C0 hnm hP hD hS 0 rfl rfl 1 (by decide) f_ST_15 rfl rfl (by decide +kernel) rfl rfl (Nat.le_of_ble_eq_true rfl) d_ST_init_19 (fun H locs hP hD hS => ?_)
  have hP : va_P G.1 sx_cls ([(a, .inr (1, [.ref q5, .ref q6, .null, .null, .int 0, .null, .null, .int 0, .int 0])), (q5, .inl (G.2 1, 256, .inr (.inl (fun _ => 0)))), (q6, .inl (G.2 1, 256, .inr (.inl (fun _ => 0))))]) H := hP
  have hD : va_D A ([(a, .inr (1, [.ref q5, .ref q6, .null, .null, .int 0, .null, .null, .int 0, .int 0])), (q5, .inl (G.2 1, 256, .inr (.inl (fun _ => 0)))), (q6, .inl (G.2 1, 256, .inr (.inl (fun _ => 0))))]) := hD
  refine lv_aload_n hx hb d_ST_init_22 rfl (lv_at hl 0 rfl) ?_
  refine lv_sipush (v := nI 256) hx hb d_ST_init_23 (by decide +kernel) ?_
  refine sx_newa (ty := .boolean) (N' := 256) (a0 := (256, .inl (fun _ => 0))) C0 rfl 2 rfl (fun cA => sx_ra_prim (Or.inr (Or.inr rfl)) cA _) sx_ac_boolean hP hD hS hA (fun _ => rfl) rfl (by decide) (by decide) (Nat.le_of_ble_eq_true rfl) (Nat.le_of_ble_eq_true rfl) d_ST_init_26 (fun q7 H hP hD hS => ?_)
  have hP : va_P G.1 sx_cls ([(a, .inr (1, [.ref q5, .ref q6, .null, .null, .int 0, .null, .null, .int 0, .int 0])), (q5, .inl (G.2 1, 256, .inr (.inl (fun _ => 0)))), (q6, .inl (G.2 1, 256, .inr (.inl (fun _ => 0)))), (q7, .inl (G.2 2, 256, .inl (fun _ => 0)))]) H := hP
  have hD : va_D A ([(a, .inr (1, [.ref q5, .ref q6, .null, .null, .int 0, .null, .null, .int 0, .int 0])), (q5, .inl (G.2 1, 256, .inr (.inl (fun _ => 0)))), (q6, .inl (G.2 1, 256, .inr (.inl (fun _ => 0)))), (q7, .inl (G.2 2, 256, .inl (fun _ => 0)))]) := hD
  refine sx_putF (ty := .array .boolean) C0 hnm hP hD hS 0 rfl rfl 2 (by decide) f_ST_18 rfl rfl (by decide +kernel) rfl rfl (Nat.le_of_ble_eq_true rfl) d_ST_init_28 (fun H locs hP hD hS => ?_)
  have hP : va_P G.1 sx_cls ([(a, .inr (1, [.ref q5, .ref q6, .ref q7, .null, .int 0, .null, .null, .int 0, .int 0])), (q5, .inl (G.2 1, 256, .inr (.inl (fun _ => 0)))), (q6, .inl (G.2 1, 256, .inr (.inl (fun _ => 0)))), (q7, .inl (G.2 2, 256, .inl (fun _ => 0)))]) H := hP
  have hD : va_D A ([(a, .inr (1, [.ref q5, .ref q6, .ref q7, .null, .int 0, .null, .null, .int 0, .int 0])), (q5, .inl (G.2 1, 256, .inr (.inl (fun _ => 0)))), (q6, .inl (G.2 1, 256, .inr (.inl (fun _ => 0)))), (q7, .inl (G.2 2, 256, .inl (fun _ => 0)))]) := hD
  refine lv_aload_n hx hb d_ST_init_31 rfl (lv_at hl 0 rfl) ?_
  refine lv_sipush (v := nI 256) hx hb d_ST_init_32 (by decide +kernel) ?_
  refine sx_newa (ty := .int) (N' := 256) (a0 := (256, .inl (fun _ => 0))) C0 rfl 0 rfl (fun cA => sx_ra_prim (Or.inl rfl) cA _) sx_ac_int hP hD hS hA (fun _ => rfl) rfl (by decide) (by decide) (Nat.le_of_ble_eq_true rfl) (Nat.le_of_ble_eq_true rfl) d_ST_init_35 (fun q8 H hP hD hS => ?_)
  have hP : va_P G.1 sx_cls ([(a, .inr (1, [.ref q5, .ref q6, .ref q7, .null, .int 0, .null, .null, .int 0, .int 0])), (q5, .inl (G.2 1, 256, .inr (.inl (fun _ => 0)))), (q6, .inl (G.2 1, 256, .inr (.inl (fun _ => 0)))), (q7, .inl (G.2 2, 256, .inl (fun _ => 0))), (q8, .inl (G.2 0, 256, .inl (fun _ => 0)))]) H := hP
  have hD : va_D A ([(a, .inr (1, [.ref q5, .ref q6, .ref q7, .null, .int 0, .null, .null, .int 0, .int 0])), (q5, .inl (G.2 1, 256, .inr (.inl (fun _ => 0)))), (q6, .inl (G.2 1, 256, .inr (.inl (fun _ => 0)))), (q7, .inl (G.2 2, 256, .inl (fun _ => 0))), (q8, .inl (G.2 0, 256, .inl (fun _ => 0)))]) := hD
  refine sx_putF (ty := .array .int) C0 hnm hP hD hS 0 rfl rfl 3 (by decide) f_ST_22 rfl rfl (by decide +kernel) rfl rfl (Nat.le_of_ble_eq_true rfl) d_ST_init_37 (fun H locs hP hD hS => ?_)
  have hP : va_P G.1 sx_cls ([(a, .inr (1, [.ref q5, .ref q6, .ref q7, .ref q8, .int 0, .null, .null, .int 0, .int 0])), (q5, .inl (G.2 1, 256, .inr (.inl (fun _ => 0)))), (q6, .inl (G.2 1, 256, .inr (.inl (fun _ => 0)))), (q7, .inl (G.2 2, 256, .inl (fun _ => 0))), (q8, .inl (G.2 0, 256, .inl (fun _ => 0)))]) H := hP
  have hD : va_D A ([(a, .inr (1, [.ref q5, .ref q6, .ref q7, .ref q8, .int 0, .null, .null, .int 0, .int 0])), (q5, .inl (G.2 1, 256, .inr (.inl (fun _ => 0)))), (q6, .inl (G.2 1, 256, .inr (.inl (fun _ => 0)))), (q7, .inl (G.2 2, 256, .inl (fun _ => 0))), (q8, .inl (G.2 0, 256, .inl (fun _ => 0)))]) := hD
  refine lv_aload_n hx hb d_ST_init_40 rfl (lv_at hl 0 rfl) ?_
  refine lv_bipush (v := nI 64) hx hb d_ST_init_41 (by decide +kernel) ?_
  refine sx_newa (ty := .int) (N' := 64) (a0 := (64, .inl (fun _ => 0))) C0 rfl 0 rfl (fun cA => sx_ra_prim (Or.inl rfl) cA _) sx_ac_int hP hD hS hA (fun _ => rfl) rfl (by decide) (by decide) (Nat.le_of_ble_eq_true rfl) (Nat.le_of_ble_eq_true rfl) d_ST_init_43 (fun qc H hP hD hS => ?_)
  have hP : va_P G.1 sx_cls ([(a, .inr (1, [.ref q5, .ref q6, .ref q7, .ref q8, .int 0, .null, .null, .int 0, .int 0])), (q5, .inl (G.2 1, 256, .inr (.inl (fun _ => 0)))), (q6, .inl (G.2 1, 256, .inr (.inl (fun _ => 0)))), (q7, .inl (G.2 2, 256, .inl (fun _ => 0))), (q8, .inl (G.2 0, 256, .inl (fun _ => 0))), (qc, .inl (G.2 0, 64, .inl (fun _ => 0)))]) H := hP
  have hD : va_D A ([(a, .inr (1, [.ref q5, .ref q6, .ref q7, .ref q8, .int 0, .null, .null, .int 0, .int 0])), (q5, .inl (G.2 1, 256, .inr (.inl (fun _ => 0)))), (q6, .inl (G.2 1, 256, .inr (.inl (fun _ => 0)))), (q7, .inl (G.2 2, 256, .inl (fun _ => 0))), (q8, .inl (G.2 0, 256, .inl (fun _ => 0))), (qc, .inl (G.2 0, 64, .inl (fun _ => 0)))]) := hD
  refine sx_put (ty := .array .int) C0 hP hD hS 0 rfl rfl 5 (by decide) f_ST_26 rfl rfl (by decide +kernel) rfl rfl (Nat.le_of_ble_eq_true rfl) d_ST_init_45 (fun H locs hP hD hS => ?_)
  have hP : va_P G.1 sx_cls ([(a, .inr (1, [.ref q5, .ref q6, .ref q7, .ref q8, .int 0, .ref qc, .null, .int 0, .int 0])), (q5, .inl (G.2 1, 256, .inr (.inl (fun _ => 0)))), (q6, .inl (G.2 1, 256, .inr (.inl (fun _ => 0)))), (q7, .inl (G.2 2, 256, .inl (fun _ => 0))), (q8, .inl (G.2 0, 256, .inl (fun _ => 0))), (qc, .inl (G.2 0, 64, .inl (fun _ => 0)))]) H := hP
  have hD : va_D A ([(a, .inr (1, [.ref q5, .ref q6, .ref q7, .ref q8, .int 0, .ref qc, .null, .int 0, .int 0])), (q5, .inl (G.2 1, 256, .inr (.inl (fun _ => 0)))), (q6, .inl (G.2 1, 256, .inr (.inl (fun _ => 0)))), (q7, .inl (G.2 2, 256, .inl (fun _ => 0))), (q8, .inl (G.2 0, 256, .inl (fun _ => 0))), (qc, .inl (G.2 0, 64, .inl (fun _ => 0)))]) := hD
  refine lv_aload_n hx hb d_ST_init_48 rfl (lv_at hl 0 rfl) ?_
  refine lv_bipush (v := nI 64) hx hb d_ST_init_49 (by decide +kernel) ?_
  refine sx_newa (ty := .long) (N' := 64) (a0 := (64, .inr (.inl (fun _ => 0)))) C0 rfl 1 rfl (fun cA => sx_ra_prim (Or.inr (Or.inl rfl)) cA _) sx_ac_long hP hD hS hA (fun _ => rfl) rfl (by decide) (by decide) (Nat.le_of_ble_eq_true rfl) (Nat.le_of_ble_eq_true rfl) d_ST_init_51 (fun qb H hP hD hS => ?_)
  have hP : va_P G.1 sx_cls ([(a, .inr (1, [.ref q5, .ref q6, .ref q7, .ref q8, .int 0, .ref qc, .null, .int 0, .int 0])), (q5, .inl (G.2 1, 256, .inr (.inl (fun _ => 0)))), (q6, .inl (G.2 1, 256, .inr (.inl (fun _ => 0)))), (q7, .inl (G.2 2, 256, .inl (fun _ => 0))), (q8, .inl (G.2 0, 256, .inl (fun _ => 0))), (qc, .inl (G.2 0, 64, .inl (fun _ => 0))), (qb, .inl (G.2 1, 64, .inr (.inl (fun _ => 0))))]) H := hP
  have hD : va_D A ([(a, .inr (1, [.ref q5, .ref q6, .ref q7, .ref q8, .int 0, .ref qc, .null, .int 0, .int 0])), (q5, .inl (G.2 1, 256, .inr (.inl (fun _ => 0)))), (q6, .inl (G.2 1, 256, .inr (.inl (fun _ => 0)))), (q7, .inl (G.2 2, 256, .inl (fun _ => 0))), (q8, .inl (G.2 0, 256, .inl (fun _ => 0))), (qc, .inl (G.2 0, 64, .inl (fun _ => 0))), (qb, .inl (G.2 1, 64, .inr (.inl (fun _ => 0))))]) := hD
  refine sx_put (ty := .array .long) C0 hP hD hS 0 rfl rfl 6 (by decide) f_ST_29 rfl rfl (by decide +kernel) rfl rfl (Nat.le_of_ble_eq_true rfl) d_ST_init_53 (fun H locs hP hD hS => ?_)
  have hP : va_P G.1 sx_cls ([(a, .inr (1, [.ref q5, .ref q6, .ref q7, .ref q8, .int 0, .ref qc, .ref qb, .int 0, .int 0])), (q5, .inl (G.2 1, 256, .inr (.inl (fun _ => 0)))), (q6, .inl (G.2 1, 256, .inr (.inl (fun _ => 0)))), (q7, .inl (G.2 2, 256, .inl (fun _ => 0))), (q8, .inl (G.2 0, 256, .inl (fun _ => 0))), (qc, .inl (G.2 0, 64, .inl (fun _ => 0))), (qb, .inl (G.2 1, 64, .inr (.inl (fun _ => 0))))]) H := hP
  have hD : va_D A ([(a, .inr (1, [.ref q5, .ref q6, .ref q7, .ref q8, .int 0, .ref qc, .ref qb, .int 0, .int 0])), (q5, .inl (G.2 1, 256, .inr (.inl (fun _ => 0)))), (q6, .inl (G.2 1, 256, .inr (.inl (fun _ => 0)))), (q7, .inl (G.2 2, 256, .inl (fun _ => 0))), (q8, .inl (G.2 0, 256, .inl (fun _ => 0))), (qc, .inl (G.2 0, 64, .inl (fun _ => 0))), (qb, .inl (G.2 1, 64, .inr (.inl (fun _ => 0))))]) := hD
  exact sx_vret C0 hr hlk hS ⟨q5, q6, q7, q8, qc, qb, rfl, hP, hD⟩ d_ST_init_56
end ST3
end
section
/-! Storage.store -/
def p_stPost (G : sx_G) (ad : Nat → Nat) (V F : Nat → Int64) (T L : Nat → Int32) (tc n : Nat) (CH : Nat → Int32) (BE : Nat → Int64) (cd : Nat) (rf : Int32) (x : Nat) (v : Int64) : Option Value → (Nat → Prop) → Heap → Prop := fun r A H => ∃ (qc qb n' : Nat) (CH' : Nat → Int32) (BE' : Nat → Int64), r = none ∧ ((cd < n ∧ n' = n) ∨ (cd = n ∧ n' = 2 * n)) ∧ (∀ i, i < n → CH' i = CH i) ∧ (∀ i, i < n → BE' i = BE i) ∧ va_P G.1 sx_cls (wST G ad qc qb (vp_updL V x v) F T L tc n' (upd CH' cd (nI x)) (vp_updL BE' cd (V x)) (cd + 1) (rf + p_given (F x) (V x) v)) H ∧ va_D A (wST G ad qc qb (vp_updL V x v) F T L tc n' (upd CH' cd (nI x)) (vp_updL BE' cd (V x)) (cd + 1) (rf + p_given (F x) (V x) v))
section ST4
variable {l : Launch} {G : sx_G} {ad : Nat → Nat} {qc qb : Nat} {V F : Nat → Int64} {T L : Nat → Int32} {tc n : Nat} {CH : Nat → Int32} {BE : Nat → Int64} {cd : Nat} {rf : Int32}
theorem c_ST_store1 {x : Nat} {v : Int64} (hX : x < 256) (hv : v = V x) : sx_Ctr l y_ST_store w_ST_store (sx_rm 0 0 0 0) G [.ref (ad 1), .int (nI x), .long v] (wST G ad qc qb V F T L tc n CH BE cd rf) (sx_is G none (wST G ad qc qb V F T L tc n CH BE cd rf)) := by
  refine sx_Ctr.of (by decide +kernel) (Nat.le_of_ble_eq_true rfl) ?_
  intro p e s m below meth c9 ls A C0 hr hlk hnm hl hP hD hA hS
  have C0 : sx_C p s m c9 b_ST_store 4 sx_ST G := C0
  have hx := C0.1
  have hb := C0.2.1
  have hl : lv_has ls 4 [(0, .ref (ad 1)), (1, .int (nI x)), (2, .long v)] := hl
  refine lv_lload_n hx hb d_ST_store_0 rfl (lv_at hl 2 rfl) ?_
  refine lv_aload_n hx hb d_ST_store_1 rfl (lv_at hl 0 rfl) ?_
  refine sx_get C0 hP 0 rfl rfl 0 (by decide) f_ST_9 rfl rfl d_ST_store_2 ?_
  refine lv_iload_n hx hb d_ST_store_5 rfl (lv_at hl 1 rfl) ?_
  refine sx_lald (i := x) (v := V x) C0 hP 1 rfl rfl hX (by decide) rfl d_ST_store_6 ?_
  refine sx_lifne (tgt := 12) C0 d_ST_store_7 d_ST_store_8 (by decide) (fun z => absurd hv z) (fun _ => ?_)
  exact sx_vret C0 hr hlk hS ⟨rfl, hP, hD⟩ d_ST_store_11
set_option maxRecDepth 20000 in
theorem c_ST_store0 {x : Nat} {v : Int64} (hX : x < 256) (hv : ¬ v = V x) (hcn : cd ≤ n) (hn0 : 0 < n) (hn : n ≤ 4096) : sx_Ctr l y_ST_store w_ST_store (sx_rm 1 2 (4 * n) 26) G [.ref (ad 1), .int (nI x), .long v] (wST G ad qc qb V F T L tc n CH BE cd rf) (p_stPost G ad V F T L tc n CH BE cd rf x v) := by
  refine sx_Ctr.of (by decide +kernel) (Nat.le_of_ble_eq_true rfl) ?_
  intro p e s m below meth c9 ls A C0 hr hlk hnm hl hP hD hA hS
  have C0 : sx_C p s m c9 b_ST_store 4 sx_ST G := C0
  have hx := C0.1
  have hb := C0.2.1
  have hl : lv_has ls 4 [(0, .ref (ad 1)), (1, .int (nI x)), (2, .long v)] := hl
  have tail : ∀ (qc' qb' n' : Nat) (CH' : Nat → Int32) (BE' : Nat → Int64) (H : Heap) (locs : List Loc), cd < n' → n' ≤ 8192 → ((cd < n ∧ n' = n) ∨ (cd = n ∧ n' = 2 * n)) → (∀ i, i < n → CH' i = CH i) → (∀ i, i < n → BE' i = BE i) → va_P G.1 sx_cls (wST G ad qc' qb' V F T L tc n' CH' BE' cd (rf + p_given (F x) (V x) v)) H → va_D A (wST G ad qc' qb' V F T L tc n' CH' BE' cd (rf + p_given (F x) (V x) v)) → va_S A s.heap H locs → W p l e (sx_rm 1 2 (4 * n) 26) s m ([.ref (ad 1), .int (nI x), .long v] : List Value).toArray below meth c9 H locs 2 (4 * n) (MQ below (sx_Q (p_stPost G ad V F T L tc n CH BE cd rf x v) A) ([.ref (ad 1), .int (nI x), .long v] : List Value).toArray s 2 (4 * n) A) (F0 m 71 ls []) := by
    intro qc' qb' n' CH' BE' H locs h1 h2 h3 h4 h5 hP hD hS
    refine lv_aload_n hx hb d_ST_store_71 rfl (lv_at hl 0 rfl) ?_
    refine sx_get C0 hP 0 rfl rfl 5 (by decide) f_ST_26 rfl rfl d_ST_store_72 ?_
    refine lv_aload_n hx hb d_ST_store_75 rfl (lv_at hl 0 rfl) ?_
    refine sx_get C0 hP 0 rfl rfl 7 (by decide) f_ST_39 rfl rfl d_ST_store_76 ?_
    refine lv_iload_n hx hb d_ST_store_79 rfl (lv_at hl 1 rfl) ?_
    refine sx_iast (i := cd) C0 hP hD hS 5 rfl rfl h1 (by omega) d_ST_store_80 (fun H locs hP hD hS => ?_)
    have hP : va_P G.1 sx_cls ([(ad 1, .inr (1, [.ref (ad 5), .ref (ad 6), .ref (ad 7), .ref (ad 8), .int (nI tc), .ref qc', .ref qb', .int (nI cd), .int (rf + p_given (F x) (V x) v)])), (ad 5, .inl (G.2 1, 256, .inr (.inl V))), (ad 6, .inl (G.2 1, 256, .inr (.inl F))), (ad 7, .inl (G.2 2, 256, .inl T)), (ad 8, .inl (G.2 0, 256, .inl L)), (qc', .inl (G.2 0, n', .inl (upd CH' cd (nI x)))), (qb', .inl (G.2 1, n', .inr (.inl BE')))]) H := hP
    have hD : va_D A ([(ad 1, .inr (1, [.ref (ad 5), .ref (ad 6), .ref (ad 7), .ref (ad 8), .int (nI tc), .ref qc', .ref qb', .int (nI cd), .int (rf + p_given (F x) (V x) v)])), (ad 5, .inl (G.2 1, 256, .inr (.inl V))), (ad 6, .inl (G.2 1, 256, .inr (.inl F))), (ad 7, .inl (G.2 2, 256, .inl T)), (ad 8, .inl (G.2 0, 256, .inl L)), (qc', .inl (G.2 0, n', .inl (upd CH' cd (nI x)))), (qb', .inl (G.2 1, n', .inr (.inl BE')))]) := hD
    refine lv_aload_n hx hb d_ST_store_81 rfl (lv_at hl 0 rfl) ?_
    refine sx_get C0 hP 0 rfl rfl 6 (by decide) f_ST_29 rfl rfl d_ST_store_82 ?_
    refine lv_aload_n hx hb d_ST_store_85 rfl (lv_at hl 0 rfl) ?_
    refine sx_get C0 hP 0 rfl rfl 7 (by decide) f_ST_39 rfl rfl d_ST_store_86 ?_
    refine lv_aload_n hx hb d_ST_store_89 rfl (lv_at hl 0 rfl) ?_
    refine sx_get C0 hP 0 rfl rfl 0 (by decide) f_ST_9 rfl rfl d_ST_store_90 ?_
    refine lv_iload_n hx hb d_ST_store_93 rfl (lv_at hl 1 rfl) ?_
    refine sx_lald (i := x) (v := V x) C0 hP 1 rfl rfl hX (by decide) rfl d_ST_store_94 ?_
    refine sx_last (i := cd) C0 hP hD hS 6 rfl rfl h1 (by omega) d_ST_store_95 (fun H locs hP hD hS => ?_)
    have hP : va_P G.1 sx_cls ([(ad 1, .inr (1, [.ref (ad 5), .ref (ad 6), .ref (ad 7), .ref (ad 8), .int (nI tc), .ref qc', .ref qb', .int (nI cd), .int (rf + p_given (F x) (V x) v)])), (ad 5, .inl (G.2 1, 256, .inr (.inl V))), (ad 6, .inl (G.2 1, 256, .inr (.inl F))), (ad 7, .inl (G.2 2, 256, .inl T)), (ad 8, .inl (G.2 0, 256, .inl L)), (qc', .inl (G.2 0, n', .inl (upd CH' cd (nI x)))), (qb', .inl (G.2 1, n', .inr (.inl (vp_updL BE' cd (V x)))))]) H := hP
    have hD : va_D A ([(ad 1, .inr (1, [.ref (ad 5), .ref (ad 6), .ref (ad 7), .ref (ad 8), .int (nI tc), .ref qc', .ref qb', .int (nI cd), .int (rf + p_given (F x) (V x) v)])), (ad 5, .inl (G.2 1, 256, .inr (.inl V))), (ad 6, .inl (G.2 1, 256, .inr (.inl F))), (ad 7, .inl (G.2 2, 256, .inl T)), (ad 8, .inl (G.2 0, 256, .inl L)), (qc', .inl (G.2 0, n', .inl (upd CH' cd (nI x)))), (qb', .inl (G.2 1, n', .inr (.inl (vp_updL BE' cd (V x)))))]) := hD
    refine lv_aload_n hx hb d_ST_store_96 rfl (lv_at hl 0 rfl) ?_
    refine lv_dup hx hb d_ST_store_97 rfl ?_
    refine sx_get C0 hP 0 rfl rfl 7 (by decide) f_ST_39 rfl rfl d_ST_store_98 ?_
    refine lv_iconst (v := 1) hx hb d_ST_store_101 (by decide) ?_
    refine lv_iadd hx hb d_ST_store_102 ?_
    refine sx_topi (y := nI (cd + 1)) (nI_1 cd) ?_
    refine sx_put (ty := .int) C0 hP hD hS 0 rfl rfl 7 (by decide) f_ST_39 rfl rfl (by decide +kernel) rfl rfl (Nat.le_of_ble_eq_true rfl) d_ST_store_103 (fun H locs hP hD hS => ?_)
    have hP : va_P G.1 sx_cls ([(ad 1, .inr (1, [.ref (ad 5), .ref (ad 6), .ref (ad 7), .ref (ad 8), .int (nI tc), .ref qc', .ref qb', .int (nI (cd + 1)), .int (rf + p_given (F x) (V x) v)])), (ad 5, .inl (G.2 1, 256, .inr (.inl V))), (ad 6, .inl (G.2 1, 256, .inr (.inl F))), (ad 7, .inl (G.2 2, 256, .inl T)), (ad 8, .inl (G.2 0, 256, .inl L)), (qc', .inl (G.2 0, n', .inl (upd CH' cd (nI x)))), (qb', .inl (G.2 1, n', .inr (.inl (vp_updL BE' cd (V x)))))]) H := hP
    have hD : va_D A ([(ad 1, .inr (1, [.ref (ad 5), .ref (ad 6), .ref (ad 7), .ref (ad 8), .int (nI tc), .ref qc', .ref qb', .int (nI (cd + 1)), .int (rf + p_given (F x) (V x) v)])), (ad 5, .inl (G.2 1, 256, .inr (.inl V))), (ad 6, .inl (G.2 1, 256, .inr (.inl F))), (ad 7, .inl (G.2 2, 256, .inl T)), (ad 8, .inl (G.2 0, 256, .inl L)), (qc', .inl (G.2 0, n', .inl (upd CH' cd (nI x)))), (qb', .inl (G.2 1, n', .inr (.inl (vp_updL BE' cd (V x)))))]) := hD
    refine lv_aload_n hx hb d_ST_store_106 rfl (lv_at hl 0 rfl) ?_
    refine sx_get C0 hP 0 rfl rfl 0 (by decide) f_ST_9 rfl rfl d_ST_store_107 ?_
    refine lv_iload_n hx hb d_ST_store_110 rfl (lv_at hl 1 rfl) ?_
    refine lv_lload_n hx hb d_ST_store_111 rfl (lv_at hl 2 rfl) ?_
    refine sx_last (i := x) C0 hP hD hS 1 rfl rfl hX (by decide) d_ST_store_112 (fun H locs hP hD hS => ?_)
    have hP : va_P G.1 sx_cls ([(ad 1, .inr (1, [.ref (ad 5), .ref (ad 6), .ref (ad 7), .ref (ad 8), .int (nI tc), .ref qc', .ref qb', .int (nI (cd + 1)), .int (rf + p_given (F x) (V x) v)])), (ad 5, .inl (G.2 1, 256, .inr (.inl (vp_updL V x v)))), (ad 6, .inl (G.2 1, 256, .inr (.inl F))), (ad 7, .inl (G.2 2, 256, .inl T)), (ad 8, .inl (G.2 0, 256, .inl L)), (qc', .inl (G.2 0, n', .inl (upd CH' cd (nI x)))), (qb', .inl (G.2 1, n', .inr (.inl (vp_updL BE' cd (V x)))))]) H := hP
    have hD : va_D A ([(ad 1, .inr (1, [.ref (ad 5), .ref (ad 6), .ref (ad 7), .ref (ad 8), .int (nI tc), .ref qc', .ref qb', .int (nI (cd + 1)), .int (rf + p_given (F x) (V x) v)])), (ad 5, .inl (G.2 1, 256, .inr (.inl (vp_updL V x v)))), (ad 6, .inl (G.2 1, 256, .inr (.inl F))), (ad 7, .inl (G.2 2, 256, .inl T)), (ad 8, .inl (G.2 0, 256, .inl L)), (qc', .inl (G.2 0, n', .inl (upd CH' cd (nI x)))), (qb', .inl (G.2 1, n', .inr (.inl (vp_updL BE' cd (V x)))))]) := hD
    exact sx_vret C0 hr hlk hS ⟨qc', qb', n', CH', BE', rfl, h3, h4, h5, hP, hD⟩ d_ST_store_113
  refine lv_lload_n hx hb d_ST_store_0 rfl (lv_at hl 2 rfl) ?_
  refine lv_aload_n hx hb d_ST_store_1 rfl (lv_at hl 0 rfl) ?_
  refine sx_get C0 hP 0 rfl rfl 0 (by decide) f_ST_9 rfl rfl d_ST_store_2 ?_
  refine lv_iload_n hx hb d_ST_store_5 rfl (lv_at hl 1 rfl) ?_
  refine sx_lald (i := x) (v := V x) C0 hP 1 rfl rfl hX (by decide) rfl d_ST_store_6 ?_
  refine sx_lifne (tgt := 12) C0 d_ST_store_7 d_ST_store_8 (by decide) (fun _ => ?_) (fun z => absurd z hv)
  refine lv_aload_n hx hb d_ST_store_12 rfl (lv_at hl 0 rfl) ?_
  refine lv_dup hx hb d_ST_store_13 rfl ?_
  refine sx_get C0 hP 0 rfl rfl 8 (by decide) f_ST_36 rfl rfl d_ST_store_14 ?_
  refine lv_aload_n hx hb d_ST_store_17 rfl (lv_at hl 0 rfl) ?_
  refine sx_get C0 hP 0 rfl rfl 1 (by decide) f_ST_15 rfl rfl d_ST_store_18 ?_
  refine lv_iload_n hx hb d_ST_store_21 rfl (lv_at hl 1 rfl) ?_
  refine sx_lald (i := x) (v := F x) C0 hP 2 rfl rfl hX (by decide) rfl d_ST_store_22 ?_
  refine lv_aload_n hx hb d_ST_store_23 rfl (lv_at hl 0 rfl) ?_
  refine sx_get C0 hP 0 rfl rfl 0 (by decide) f_ST_9 rfl rfl d_ST_store_24 ?_
  refine lv_iload_n hx hb d_ST_store_27 rfl (lv_at hl 1 rfl) ?_
  refine sx_lald (i := x) (v := V x) C0 hP 1 rfl rfl hX (by decide) rfl d_ST_store_28 ?_
  refine lv_lload_n hx hb d_ST_store_29 rfl (lv_at hl 2 rfl) ?_
  refine sx_cSP (As := [.long (F x), .long (V x), .long v]) (rest := [.int rf, .ref (ad 1)]) (wc := []) C0 c_ST_given q_ST_46 i_ST_given ⟨Nat.le_of_ble_eq_true rfl, Nat.le_of_ble_eq_true rfl⟩ rfl (fun k q h => by cases h) hl.1 rfl (Nat.le_of_ble_eq_true rfl) d_ST_store_30 ⟨Nat.zero_le _, Nat.zero_le _⟩ ?_
  refine lv_iadd hx hb d_ST_store_33 ?_
  refine sx_put (ty := .int) C0 hP hD hS 0 rfl rfl 8 (by decide) f_ST_36 rfl rfl (by decide +kernel) rfl rfl (Nat.le_of_ble_eq_true rfl) d_ST_store_34 (fun H locs hP hD hS => ?_)
  have hP : va_P G.1 sx_cls ([(ad 1, .inr (1, [.ref (ad 5), .ref (ad 6), .ref (ad 7), .ref (ad 8), .int (nI tc), .ref qc, .ref qb, .int (nI cd), .int (rf + (p_given (F x) (V x) v))])), (ad 5, .inl (G.2 1, 256, .inr (.inl V))), (ad 6, .inl (G.2 1, 256, .inr (.inl F))), (ad 7, .inl (G.2 2, 256, .inl T)), (ad 8, .inl (G.2 0, 256, .inl L)), (qc, .inl (G.2 0, n, .inl CH)), (qb, .inl (G.2 1, n, .inr (.inl BE)))]) H := hP
  have hD : va_D A ([(ad 1, .inr (1, [.ref (ad 5), .ref (ad 6), .ref (ad 7), .ref (ad 8), .int (nI tc), .ref qc, .ref qb, .int (nI cd), .int (rf + (p_given (F x) (V x) v))])), (ad 5, .inl (G.2 1, 256, .inr (.inl V))), (ad 6, .inl (G.2 1, 256, .inr (.inl F))), (ad 7, .inl (G.2 2, 256, .inl T)), (ad 8, .inl (G.2 0, 256, .inl L)), (qc, .inl (G.2 0, n, .inl CH)), (qb, .inl (G.2 1, n, .inr (.inl BE)))]) := hD
  refine lv_aload_n hx hb d_ST_store_37 rfl (lv_at hl 0 rfl) ?_
  refine sx_get C0 hP 0 rfl rfl 7 (by decide) f_ST_39 rfl rfl d_ST_store_38 ?_
  refine lv_aload_n hx hb d_ST_store_41 rfl (lv_at hl 0 rfl) ?_
  refine sx_get C0 hP 0 rfl rfl 5 (by decide) f_ST_26 rfl rfl d_ST_store_42 ?_
  refine sx_alen (t0 := 0) C0 hP 5 rfl rfl (v := nI n) rfl d_ST_store_45 ?_
  refine lv_icmp_ne (tgt := 71) hx hb d_ST_store_46 (by decide) (fun h1 => ?_) (fun h1 => ?_)
  · have h2 : cd ≠ n := fun z => h1 (by rw [z])
    exact W.widen (by omega) (by omega) (tail qc qb n CH BE H locs (by omega) (by omega) (Or.inl ⟨by omega, rfl⟩) (fun _ _ => rfl) (fun _ _ => rfl) hP hD hS)
  · have h2 : cd = n := (nI_eq (by omega) (by omega)).mp h1
    refine lv_aload_n hx hb d_ST_store_49 rfl (lv_at hl 0 rfl) ?_
    refine lv_aload_n hx hb d_ST_store_50 rfl (lv_at hl 0 rfl) ?_
    refine sx_get C0 hP 0 rfl rfl 5 (by decide) f_ST_26 rfl rfl d_ST_store_51 ?_
    refine sx_cSN (As := [.ref qc]) (rest := [.ref (ad 1)]) (wa := [(ad 1, .inr (1, [.ref (ad 5), .ref (ad 6), .ref (ad 7), .ref (ad 8), .int (nI tc), .ref qc, .ref qb, .int (nI cd), .int (rf + (p_given (F x) (V x) v))])), (ad 5, .inl (G.2 1, 256, .inr (.inl V))), (ad 6, .inl (G.2 1, 256, .inr (.inl F))), (ad 7, .inl (G.2 2, 256, .inl T)), (ad 8, .inl (G.2 0, 256, .inl L))]) (wb := [(qb, .inl (G.2 1, n, .inr (.inl BE)))]) C0 (c_SC_longerI hn0 hn) q_ST_50 i_SC_longerI ⟨Nat.le_of_ble_eq_true rfl, Nat.le_of_ble_eq_true rfl⟩ rfl hP hD hS hA hl.1 rfl (Nat.le_of_ble_eq_true rfl) d_ST_store_54 ⟨(show 0 + 1 ≤ 2 by omega), (show 0 + 2 * n ≤ 4 * n by omega)⟩ (fun v2 H locs hq hj hS => ?_)
    obtain ⟨q1, g1, rfl, hg1, hP1, hD1⟩ := hq
    obtain ⟨hP, hD⟩ := hj _ hP1 hD1
    have hP : va_P G.1 sx_cls ([(ad 1, .inr (1, [.ref (ad 5), .ref (ad 6), .ref (ad 7), .ref (ad 8), .int (nI tc), .ref qc, .ref qb, .int (nI cd), .int (rf + (p_given (F x) (V x) v))])), (ad 5, .inl (G.2 1, 256, .inr (.inl V))), (ad 6, .inl (G.2 1, 256, .inr (.inl F))), (ad 7, .inl (G.2 2, 256, .inl T)), (ad 8, .inl (G.2 0, 256, .inl L)), (qc, .inl (G.2 0, n, .inl CH)), (q1, .inl (G.2 0, 2 * n, .inl g1)), (qb, .inl (G.2 1, n, .inr (.inl BE)))]) H := hP
    have hD : va_D A ([(ad 1, .inr (1, [.ref (ad 5), .ref (ad 6), .ref (ad 7), .ref (ad 8), .int (nI tc), .ref qc, .ref qb, .int (nI cd), .int (rf + (p_given (F x) (V x) v))])), (ad 5, .inl (G.2 1, 256, .inr (.inl V))), (ad 6, .inl (G.2 1, 256, .inr (.inl F))), (ad 7, .inl (G.2 2, 256, .inl T)), (ad 8, .inl (G.2 0, 256, .inl L)), (qc, .inl (G.2 0, n, .inl CH)), (q1, .inl (G.2 0, 2 * n, .inl g1)), (qb, .inl (G.2 1, n, .inr (.inl BE)))]) := hD
    refine sx_put (ty := .array .int) C0 hP hD hS 0 rfl rfl 5 (by decide) f_ST_26 rfl rfl (by decide +kernel) rfl rfl (Nat.le_of_ble_eq_true rfl) d_ST_store_57 (fun H locs hP hD hS => ?_)
    have hP : va_P G.1 sx_cls ([(ad 1, .inr (1, [.ref (ad 5), .ref (ad 6), .ref (ad 7), .ref (ad 8), .int (nI tc), .ref q1, .ref qb, .int (nI cd), .int (rf + (p_given (F x) (V x) v))])), (ad 5, .inl (G.2 1, 256, .inr (.inl V))), (ad 6, .inl (G.2 1, 256, .inr (.inl F))), (ad 7, .inl (G.2 2, 256, .inl T)), (ad 8, .inl (G.2 0, 256, .inl L)), (qc, .inl (G.2 0, n, .inl CH)), (q1, .inl (G.2 0, 2 * n, .inl g1)), (qb, .inl (G.2 1, n, .inr (.inl BE)))]) H := hP
    have hD : va_D A ([(ad 1, .inr (1, [.ref (ad 5), .ref (ad 6), .ref (ad 7), .ref (ad 8), .int (nI tc), .ref q1, .ref qb, .int (nI cd), .int (rf + (p_given (F x) (V x) v))])), (ad 5, .inl (G.2 1, 256, .inr (.inl V))), (ad 6, .inl (G.2 1, 256, .inr (.inl F))), (ad 7, .inl (G.2 2, 256, .inl T)), (ad 8, .inl (G.2 0, 256, .inl L)), (qc, .inl (G.2 0, n, .inl CH)), (q1, .inl (G.2 0, 2 * n, .inl g1)), (qb, .inl (G.2 1, n, .inr (.inl BE)))]) := hD
    refine lv_aload_n hx hb d_ST_store_60 rfl (lv_at hl 0 rfl) ?_
    refine lv_aload_n hx hb d_ST_store_61 rfl (lv_at hl 0 rfl) ?_
    refine sx_get C0 hP 0 rfl rfl 6 (by decide) f_ST_29 rfl rfl d_ST_store_62 ?_
    refine sx_cSN (As := [.ref qb]) (rest := [.ref (ad 1)]) (wa := [(ad 1, .inr (1, [.ref (ad 5), .ref (ad 6), .ref (ad 7), .ref (ad 8), .int (nI tc), .ref q1, .ref qb, .int (nI cd), .int (rf + (p_given (F x) (V x) v))])), (ad 5, .inl (G.2 1, 256, .inr (.inl V))), (ad 6, .inl (G.2 1, 256, .inr (.inl F))), (ad 7, .inl (G.2 2, 256, .inl T)), (ad 8, .inl (G.2 0, 256, .inl L)), (qc, .inl (G.2 0, n, .inl CH)), (q1, .inl (G.2 0, 2 * n, .inl g1))]) (wb := []) C0 (c_SC_longerJ hn0 hn) q_ST_54 i_SC_longerJ ⟨Nat.le_of_ble_eq_true rfl, Nat.le_of_ble_eq_true rfl⟩ rfl hP hD hS hA hl.1 rfl (Nat.le_of_ble_eq_true rfl) d_ST_store_65 ⟨(show 0 + 1 + 1 ≤ 2 by omega), (show 0 + 2 * n + 2 * n ≤ 4 * n by omega)⟩ (fun v3 H locs hq hj hS => ?_)
    obtain ⟨q2, g2, rfl, hg2, hP1, hD1⟩ := hq
    obtain ⟨hP, hD⟩ := hj _ hP1 hD1
    have hP : va_P G.1 sx_cls ([(ad 1, .inr (1, [.ref (ad 5), .ref (ad 6), .ref (ad 7), .ref (ad 8), .int (nI tc), .ref q1, .ref qb, .int (nI cd), .int (rf + (p_given (F x) (V x) v))])), (ad 5, .inl (G.2 1, 256, .inr (.inl V))), (ad 6, .inl (G.2 1, 256, .inr (.inl F))), (ad 7, .inl (G.2 2, 256, .inl T)), (ad 8, .inl (G.2 0, 256, .inl L)), (qc, .inl (G.2 0, n, .inl CH)), (q1, .inl (G.2 0, 2 * n, .inl g1)), (qb, .inl (G.2 1, n, .inr (.inl BE))), (q2, .inl (G.2 1, 2 * n, .inr (.inl g2)))]) H := hP
    have hD : va_D A ([(ad 1, .inr (1, [.ref (ad 5), .ref (ad 6), .ref (ad 7), .ref (ad 8), .int (nI tc), .ref q1, .ref qb, .int (nI cd), .int (rf + (p_given (F x) (V x) v))])), (ad 5, .inl (G.2 1, 256, .inr (.inl V))), (ad 6, .inl (G.2 1, 256, .inr (.inl F))), (ad 7, .inl (G.2 2, 256, .inl T)), (ad 8, .inl (G.2 0, 256, .inl L)), (qc, .inl (G.2 0, n, .inl CH)), (q1, .inl (G.2 0, 2 * n, .inl g1)), (qb, .inl (G.2 1, n, .inr (.inl BE))), (q2, .inl (G.2 1, 2 * n, .inr (.inl g2)))]) := hD
    refine sx_put (ty := .array .long) C0 hP hD hS 0 rfl rfl 6 (by decide) f_ST_29 rfl rfl (by decide +kernel) rfl rfl (Nat.le_of_ble_eq_true rfl) d_ST_store_68 (fun H locs hP hD hS => ?_)
    have hP : va_P G.1 sx_cls ([(ad 1, .inr (1, [.ref (ad 5), .ref (ad 6), .ref (ad 7), .ref (ad 8), .int (nI tc), .ref q1, .ref q2, .int (nI cd), .int (rf + (p_given (F x) (V x) v))])), (ad 5, .inl (G.2 1, 256, .inr (.inl V))), (ad 6, .inl (G.2 1, 256, .inr (.inl F))), (ad 7, .inl (G.2 2, 256, .inl T)), (ad 8, .inl (G.2 0, 256, .inl L)), (qc, .inl (G.2 0, n, .inl CH)), (q1, .inl (G.2 0, 2 * n, .inl g1)), (qb, .inl (G.2 1, n, .inr (.inl BE))), (q2, .inl (G.2 1, 2 * n, .inr (.inl g2)))]) H := hP
    have hD : va_D A ([(ad 1, .inr (1, [.ref (ad 5), .ref (ad 6), .ref (ad 7), .ref (ad 8), .int (nI tc), .ref q1, .ref q2, .int (nI cd), .int (rf + (p_given (F x) (V x) v))])), (ad 5, .inl (G.2 1, 256, .inr (.inl V))), (ad 6, .inl (G.2 1, 256, .inr (.inl F))), (ad 7, .inl (G.2 2, 256, .inl T)), (ad 8, .inl (G.2 0, 256, .inl L)), (qc, .inl (G.2 0, n, .inl CH)), (q1, .inl (G.2 0, 2 * n, .inl g1)), (qb, .inl (G.2 1, n, .inr (.inl BE))), (q2, .inl (G.2 1, 2 * n, .inr (.inl g2)))]) := hD
    have hP := hP.sub (ws' := (wST G ad q1 q2 V F T L tc (2 * n) g1 g2 cd (rf + p_given (F x) (V x) v))) [0, 1, 2, 3, 4, 6, 8] rfl
    have hD := hD.sub (ws' := (wST G ad q1 q2 V F T L tc (2 * n) g1 g2 cd (rf + p_given (F x) (V x) v))) [0, 1, 2, 3, 4, 6, 8] (by decide) rfl
    exact W.widen (show 0 + 1 + 1 ≤ 2 by omega) (show 0 + 2 * n + 2 * n ≤ 4 * n by omega) (tail q1 q2 (2 * n) g1 g2 H locs (by omega) (by omega) (Or.inr ⟨h2, rfl⟩) hg1 hg2 hP hD hS)
end ST4
end
section
/-! StorageCosts: place, constructor, begin, open, close -/
section SXW
variable {p : Program} {l : Launch} {e : Env} {R : Room} {s : State} {m : MethodId} {args : Array Value} {below : List Frame} {meth : Method} {c : Code} {H : Heap} {locs : List Loc} {cells slots : Nat} {Q : State → Prop} {cc : ByteArray} {nL : Nat} {own : String} {G : sx_G} {pc : Nat} {ls : Array Slot} {rest : List Value} {A : Nat → Prop}
theorem sx_new (C0 : sx_C p s m c cc nL own G) {ws : va_W} {C : String} {T : u_T} {N ci idx : Nat} {fs : List Value} (hl : Jvm.Cond.classLink own idx C ∈ lw_tbl) (hi : Jvm.Cond.instantiable C N ∈ lw_tbl) (hn : Jvm.Cond.initialized C ∈ lw_tbl) (hP : va_P G.1 sx_cls ws H) (hD : va_D A ws) (hS : va_S A s.heap H locs) (hA : ∀ q, s.heap.size ≤ q → A q) (hc : sx_cls[ci]? = some (C, T, N)) (hfs : ∀ j, j < N → defaultValue (sx_ty ci j) = vp_V fs j) (hf : cells + 1 ≤ R.cells ∧ slots + N ≤ R.slots) (hdg : decode cc pc = .ok (.new idx, 3))
    (kk : ∀ (q : Nat) (H1 : Heap), va_P G.1 sx_cls (ws ++ [(q, .inr (ci, fs))]) H1 → va_D A (ws ++ [(q, .inr (ci, fs))]) → va_S A s.heap H1 locs → W p l e R s m args below meth c H1 locs (cells + 1) (slots + N) Q (F0 m (pc + 3) ls (.ref q :: rest))) : W p l e R s m args below meth c H locs cells slots Q (F0 m pc ls rest) := by
  obtain ⟨hin, ht, -⟩ := sx_in hc
  have hTB := C0.2.2.2.2.1
  exact va_new (Ts := u_ws C T N) (D := G.1) (cl := sx_cls) C0.1 C0.2.1 (fun w hw => hTB.use (hin w hw) (Or.inl (by
    obtain ⟨j, -, rfl⟩ := List.mem_map.mp hw
    unfold u_lay; split <;> rfl)) args) (fun _ h => h) _ ht C0.2.2.2.1 (hTB.use hl (Or.inl rfl) args) (hTB.use hi (Or.inl rfl) args) (hTB.use hn (Or.inl rfl) args) C0.2.2.2.2.2.1 hP hD hS hA hc hfs hf.1 hf.2 hdg kk
end SXW
theorem sx_lk_ST : Jvm.Cond.classLink sx_SC 7 sx_ST ∈ lw_tbl := sx_tb (i := 22) rfl
theorem sx_is_ST : Jvm.Cond.instantiable sx_ST 9 ∈ lw_tbl := sx_tb (i := 23) rfl
theorem sx_in_ST : Jvm.Cond.initialized sx_ST ∈ lw_tbl := sx_tb (i := 6) rfl
theorem sx_lk_SC : Jvm.Cond.classLink sx_LW 8 sx_SC ∈ lw_tbl := sx_tb (i := 14) rfl
theorem sx_is_SC : Jvm.Cond.instantiable sx_SC 5 ∈ lw_tbl := sx_tb (i := 15) rfl
theorem sx_in_SC : Jvm.Cond.initialized sx_SC ∈ lw_tbl := sx_tb (i := 5) rfl
theorem sx_lk_MD : Jvm.Cond.classLink sx_LW 44 sx_MD ∈ lw_tbl := sx_tb (i := 285) rfl
theorem sx_is_MD : Jvm.Cond.instantiable sx_MD 9 ∈ lw_tbl := sx_tb (i := 286) rfl
theorem sx_in_MD : Jvm.Cond.initialized sx_MD ∈ lw_tbl := sx_tb (i := 7) rfl
def p_out (o p : Int32) : Prop := o < 0 ∨ 4 ≤ o ∨ p < 0 ∨ 64 ≤ p
theorem p_out_not {o p : Int32} (h : ¬ p_out o p) : ∃ a b : Nat, a < 4 ∧ b < 64 ∧ o = nI a ∧ p = nI b := by
  have h1 : ¬ o < 0 := fun z => h (Or.inl z)
  have h2 : ¬ 4 ≤ o := fun z => h (Or.inr (Or.inl z))
  have h3 : ¬ p < 0 := fun z => h (Or.inr (Or.inr (Or.inl z)))
  have h4 : ¬ 64 ≤ p := fun z => h (Or.inr (Or.inr (Or.inr z)))
  obtain ⟨a, ha, rfl⟩ := nI_of h1
  obtain ⟨b, hb, rfl⟩ := nI_of h3
  have e4 : (4 : Int32) = nI 4 := by decide +kernel
  have e64 : (64 : Int32) = nI 64 := by decide +kernel
  rw [e4, nI_leI (by decide) ha] at h2
  rw [e64, nI_leI (by decide) hb] at h4
  exact ⟨a, b, by omega, by omega, rfl, rfl⟩
section SC1
variable {l : Launch} {G : sx_G} {ad : Nat → Nat} {qc qb : Nat} {V F : Nat → Int64} {T L : Nat → Int32} {tc n : Nat} {CH : Nat → Int32} {BE : Nat → Int64} {cd : Nat} {rf : Int32} {C1 C2 C3 : Nat → Int32} {dp : Nat}
theorem c_SC_place {a b : Nat} {ws : va_W} (ha : a < 4) (hb1 : b < 64) : sx_CtrP l y_SC_place w_SC_place 0 0 G [.int (nI a), .int (nI b)] ws (.int (nI (64 * a + b))) := by
  refine sx_CtrP.of (by decide +kernel) (Nat.le_of_ble_eq_true rfl) ?_
  intro p e s m below meth c9 ls C0 hr hlk hl hP
  have C0 : sx_C p s m c9 b_SC_place 2 sx_SC G := C0
  have hx := C0.1
  have hb := C0.2.1
  have hl : lv_has ls 2 [(0, .int (nI a)), (1, .int (nI b))] := hl
  refine lv_iload_n hx hb d_SC_place_0 rfl (lv_at hl 0 rfl) ?_
  refine lv_if_lt (tgt := 19) hx hb d_SC_place_1 (by decide) (fun z => absurd z (nI_pos (by omega))) (fun _ => ?_)
  refine lv_iload_n hx hb d_SC_place_4 rfl (lv_at hl 0 rfl) ?_
  refine lv_iconst (v := nI 4) hx hb d_SC_place_5 (by decide +kernel) ?_
  refine lv_icmp_ge (tgt := 19) hx hb d_SC_place_6 (by decide) (fun z => absurd z (nI_ge ha (by decide))) (fun _ => ?_)
  refine lv_iload_n hx hb d_SC_place_9 rfl (lv_at hl 1 rfl) ?_
  refine lv_if_lt (tgt := 19) hx hb d_SC_place_10 (by decide) (fun z => absurd z (nI_pos (by omega))) (fun _ => ?_)
  refine lv_iload_n hx hb d_SC_place_13 rfl (lv_at hl 1 rfl) ?_
  refine lv_bipush (v := nI 64) hx hb d_SC_place_14 (by decide +kernel) ?_
  refine lv_icmp_lt (tgt := 27) hx hb d_SC_place_16 (by decide) (fun _ => ?_) (fun z => absurd (nI_lt hb1 (by decide)) z)
  refine lv_bipush (v := nI 64) hx hb d_SC_place_27 (by decide +kernel) ?_
  refine lv_iload_n hx hb d_SC_place_29 rfl (lv_at hl 0 rfl) ?_
  refine lv_imul hx hb d_SC_place_30 ?_
  refine sx_topi (y := nI (64 * a)) (pk_mul 64 a) ?_
  refine lv_iload_n hx hb d_SC_place_31 rfl (lv_at hl 1 rfl) ?_
  refine lv_iadd hx hb d_SC_place_32 ?_
  refine sx_topi (y := nI (64 * a + b)) (nI_add _ _) ?_
  exact sx_iretP C0 hr hlk d_SC_place_33
theorem x_SC_place {o p : Int32} {ws : va_W} (hfl : l.flags = flags0) (ho : p_out o p) : sx_CtrX l y_SC_place w_SC_place (sx_rm 6 1 6 90) G [.int o, .int p] ws E_IAE := by
  rename Int32 => pp
  refine sx_CtrX.of (by decide +kernel) (Nat.le_of_ble_eq_true rfl) ?_
  intro p e s m below meth c9 ls hadm C0 he hlk hl hP hTS
  have C0 : sx_C p s m c9 b_SC_place 2 sx_SC G := C0
  have hx := C0.1
  have hb := C0.2.1
  have hl : lv_has ls 2 [(0, .int o), (1, .int pp)] := hl
  have thr : W p l e (sx_rm 6 1 6 90) s m ([.int o, .int pp] : List Value).toArray below meth c9 s.heap [] 0 0 (sx_XQ below E_IAE ([.int o, .int pp] : List Value).toArray s 1 6) (F0 m 19 ls []) := sx_throw C0 (Launch.traces_off hfl hadm) hTS (Nat.le_refl _) sx_at_IAE (by decide +kernel) sx_cl_IAE sx_ins_IAE sx_ini_IAE he hlk hl.1 (Nat.le_of_ble_eq_true rfl) ⟨Nat.le_of_ble_eq_true rfl, Nat.le_of_ble_eq_true rfl⟩ ⟨Nat.le_of_ble_eq_true rfl, Nat.le_of_ble_eq_true rfl⟩ d_SC_place_19 d_SC_place_22 d_SC_place_23 d_SC_place_26
  refine lv_iload_n hx hb d_SC_place_0 rfl (lv_at hl 0 rfl) ?_
  refine lv_if_lt (tgt := 19) hx hb d_SC_place_1 (by decide) (fun h1 => ?_) (fun h1 => ?_)
  · exact thr
  · skip
    refine lv_iload_n hx hb d_SC_place_4 rfl (lv_at hl 0 rfl) ?_
    refine lv_iconst (v := 4) hx hb d_SC_place_5 (by decide) ?_
    refine lv_icmp_ge (tgt := 19) hx hb d_SC_place_6 (by decide) (fun h2 => ?_) (fun h2 => ?_)
    · exact thr
    · skip
      refine lv_iload_n hx hb d_SC_place_9 rfl (lv_at hl 1 rfl) ?_
      refine lv_if_lt (tgt := 19) hx hb d_SC_place_10 (by decide) (fun h3 => ?_) (fun h3 => ?_)
      · exact thr
      · skip
        refine lv_iload_n hx hb d_SC_place_13 rfl (lv_at hl 1 rfl) ?_
        refine lv_bipush (v := 64) hx hb d_SC_place_14 (by decide) ?_
        refine lv_icmp_lt (tgt := 27) hx hb d_SC_place_16 (by decide) (fun h4 => ?_) (fun h4 => ?_)
        · exact absurd h4 (by
            rcases ho with h | h | h | h
            · exact absurd h h1
            · exact absurd h h2
            · exact absurd h h3
            · exact Int32.not_lt.mpr h)
        · exact thr
theorem c_SC_begin (hcn : cd ≤ n) (hn : n < 2 ^ 31) (htc : tc ≤ 256) (hCH : p_ix CH cd) (hL : p_ix L tc) : sx_Ctr l y_SC_begin w_SC_begin (sx_rm 2 0 0 44) G [.ref (ad 0)] (wSC G ad qc qb V F T L tc n CH BE cd rf C1 C2 C3 dp) (sx_is G (some (.int (nI (p_cnL V 256)))) (wSC G ad qc qb V V (p_unt L 0 tc T) L 0 n CH BE 0 0 C1 C2 C3 0)) := by
  refine sx_Ctr.of (by decide +kernel) (Nat.le_of_ble_eq_true rfl) ?_
  intro p e s m below meth c9 ls A C0 hr hlk hnm hl hP hD hA hS
  have C0 : sx_C p s m c9 b_SC_begin 1 sx_SC G := C0
  have hx := C0.1
  have hb := C0.2.1
  have hl : lv_has ls 1 [(0, .ref (ad 0))] := hl
  refine lv_aload_n hx hb d_SC_begin_0 rfl (lv_at hl 0 rfl) ?_
  refine sx_get C0 hP 0 rfl rfl 0 (by decide) f_SC_10 rfl rfl d_SC_begin_1 ?_
  refine sx_cV (As := []) (rest := []) (wa := (wS4 G ad C1 C2 C3 dp)) (wb := []) (k0 := 0) C0 (c_ST_begin hcn hn htc hCH hL) q_SC_29 i_ST_begin ⟨Nat.le_of_ble_eq_true rfl, Nat.le_of_ble_eq_true rfl⟩ rfl rfl rfl hP hD hS hA hl.1 rfl (Nat.zero_le _) d_SC_begin_4 ⟨Nat.le_of_ble_eq_true rfl, Nat.le_of_ble_eq_true rfl⟩ (fun v H locs hq hj hS => ?_)
  obtain ⟨rfl, hP1, hD1⟩ := hq
  obtain ⟨hP, hD⟩ := hj _ hP1 hD1
  have hP : va_P G.1 sx_cls ([(ad 0, .inr (0, [.ref (ad 1), .ref (ad 2), .ref (ad 3), .ref (ad 4), .int (nI dp)])), (ad 2, .inl (G.2 0, 30, .inl C1)), (ad 3, .inl (G.2 0, 30, .inl C2)), (ad 4, .inl (G.2 0, 30, .inl C3)), (ad 1, .inr (1, [.ref (ad 5), .ref (ad 6), .ref (ad 7), .ref (ad 8), .int (nI 0), .ref qc, .ref qb, .int (nI 0), .int 0])), (ad 5, .inl (G.2 1, 256, .inr (.inl V))), (ad 6, .inl (G.2 1, 256, .inr (.inl V))), (ad 7, .inl (G.2 2, 256, .inl (p_unt L 0 tc T))), (ad 8, .inl (G.2 0, 256, .inl L)), (qc, .inl (G.2 0, n, .inl CH)), (qb, .inl (G.2 1, n, .inr (.inl BE)))]) H := hP
  have hD : va_D A ([(ad 0, .inr (0, [.ref (ad 1), .ref (ad 2), .ref (ad 3), .ref (ad 4), .int (nI dp)])), (ad 2, .inl (G.2 0, 30, .inl C1)), (ad 3, .inl (G.2 0, 30, .inl C2)), (ad 4, .inl (G.2 0, 30, .inl C3)), (ad 1, .inr (1, [.ref (ad 5), .ref (ad 6), .ref (ad 7), .ref (ad 8), .int (nI 0), .ref qc, .ref qb, .int (nI 0), .int 0])), (ad 5, .inl (G.2 1, 256, .inr (.inl V))), (ad 6, .inl (G.2 1, 256, .inr (.inl V))), (ad 7, .inl (G.2 2, 256, .inl (p_unt L 0 tc T))), (ad 8, .inl (G.2 0, 256, .inl L)), (qc, .inl (G.2 0, n, .inl CH)), (qb, .inl (G.2 1, n, .inr (.inl BE)))]) := hD
  refine lv_aload_n hx hb d_SC_begin_7 rfl (lv_at hl 0 rfl) ?_
  refine lv_iconst (v := nI 0) hx hb d_SC_begin_8 (by decide +kernel) ?_
  refine sx_put (ty := .int) C0 hP hD hS 0 rfl rfl 4 (by decide) f_SC_32 rfl rfl (by decide +kernel) rfl rfl (Nat.le_of_ble_eq_true rfl) d_SC_begin_9 (fun H locs hP hD hS => ?_)
  have hP : va_P G.1 sx_cls ([(ad 0, .inr (0, [.ref (ad 1), .ref (ad 2), .ref (ad 3), .ref (ad 4), .int (nI 0)])), (ad 2, .inl (G.2 0, 30, .inl C1)), (ad 3, .inl (G.2 0, 30, .inl C2)), (ad 4, .inl (G.2 0, 30, .inl C3)), (ad 1, .inr (1, [.ref (ad 5), .ref (ad 6), .ref (ad 7), .ref (ad 8), .int (nI 0), .ref qc, .ref qb, .int (nI 0), .int 0])), (ad 5, .inl (G.2 1, 256, .inr (.inl V))), (ad 6, .inl (G.2 1, 256, .inr (.inl V))), (ad 7, .inl (G.2 2, 256, .inl (p_unt L 0 tc T))), (ad 8, .inl (G.2 0, 256, .inl L)), (qc, .inl (G.2 0, n, .inl CH)), (qb, .inl (G.2 1, n, .inr (.inl BE)))]) H := hP
  have hD : va_D A ([(ad 0, .inr (0, [.ref (ad 1), .ref (ad 2), .ref (ad 3), .ref (ad 4), .int (nI 0)])), (ad 2, .inl (G.2 0, 30, .inl C1)), (ad 3, .inl (G.2 0, 30, .inl C2)), (ad 4, .inl (G.2 0, 30, .inl C3)), (ad 1, .inr (1, [.ref (ad 5), .ref (ad 6), .ref (ad 7), .ref (ad 8), .int (nI 0), .ref qc, .ref qb, .int (nI 0), .int 0])), (ad 5, .inl (G.2 1, 256, .inr (.inl V))), (ad 6, .inl (G.2 1, 256, .inr (.inl V))), (ad 7, .inl (G.2 2, 256, .inl (p_unt L 0 tc T))), (ad 8, .inl (G.2 0, 256, .inl L)), (qc, .inl (G.2 0, n, .inl CH)), (qb, .inl (G.2 1, n, .inr (.inl BE)))]) := hD
  refine lv_aload_n hx hb d_SC_begin_12 rfl (lv_at hl 0 rfl) ?_
  refine sx_get C0 hP 0 rfl rfl 0 (by decide) f_SC_10 rfl rfl d_SC_begin_13 ?_
  refine sx_cVP (As := []) (rest := []) (wc := (wST G ad qc qb V V (p_unt L 0 tc T) L 0 n CH BE 0 0)) (k0 := 0) C0 c_ST_some q_SC_36 i_ST_some ⟨Nat.le_of_ble_eq_true rfl, Nat.le_of_ble_eq_true rfl⟩ rfl rfl rfl (sx_mid (wa := (wS4 G ad C1 C2 C3 0)) (wc := (wST G ad qc qb V V (p_unt L 0 tc T) L 0 n CH BE 0 0)) (wb := []) hP) hl.1 rfl (Nat.le_of_ble_eq_true rfl) d_SC_begin_16 ⟨Nat.zero_le _, Nat.zero_le _⟩ ?_
  exact sx_iret C0 hr hlk hS ⟨rfl, hP, hD⟩ d_SC_begin_19
theorem c_SC_open (hd : dp < 30) : sx_Ctr l y_SC_open w_SC_open (sx_rm 1 0 0 20) G [.ref (ad 0)] (wSC G ad qc qb V F T L tc n CH BE cd rf C1 C2 C3 dp) (sx_is G (some (.int (nI (dp + 1)))) (wSC G ad qc qb V F T L tc n CH BE cd rf (upd C1 dp (nI cd)) (upd C2 dp (nI tc)) (upd C3 dp rf) (dp + 1))) := by
  refine sx_Ctr.of (by decide +kernel) (Nat.le_of_ble_eq_true rfl) ?_
  intro p e s m below meth c9 ls A C0 hr hlk hnm hl hP hD hA hS
  have C0 : sx_C p s m c9 b_SC_open 1 sx_SC G := C0
  have hx := C0.1
  have hb := C0.2.1
  have hl : lv_has ls 1 [(0, .ref (ad 0))] := hl
  refine lv_aload_n hx hb d_SC_open_0 rfl (lv_at hl 0 rfl) ?_
  refine sx_get C0 hP 0 rfl rfl 4 (by decide) f_SC_32 rfl rfl d_SC_open_1 ?_
  refine lv_bipush (v := nI 30) hx hb d_SC_open_4 (by decide +kernel) ?_
  refine lv_icmp_ne (tgt := 17) hx hb d_SC_open_6 (by decide) (fun _ => ?_) (fun z => absurd z (fun z => by have := (nI_eq (by omega) (by decide)).mp z; omega))
  refine lv_aload_n hx hb d_SC_open_17 rfl (lv_at hl 0 rfl) ?_
  refine sx_get C0 hP 0 rfl rfl 1 (by decide) f_SC_16 rfl rfl d_SC_open_18 ?_
  refine lv_aload_n hx hb d_SC_open_21 rfl (lv_at hl 0 rfl) ?_
  refine sx_get C0 hP 0 rfl rfl 4 (by decide) f_SC_32 rfl rfl d_SC_open_22 ?_
  refine lv_aload_n hx hb d_SC_open_25 rfl (lv_at hl 0 rfl) ?_
  refine sx_get C0 hP 0 rfl rfl 0 (by decide) f_SC_10 rfl rfl d_SC_open_26 ?_
  refine sx_cVP (As := []) (rest := [.int (nI dp), .ref (ad 2)]) (wc := (wST G ad qc qb V F T L tc n CH BE cd rf)) (k0 := 0) C0 c_ST_changed q_SC_43 i_ST_changed ⟨Nat.le_of_ble_eq_true rfl, Nat.le_of_ble_eq_true rfl⟩ rfl rfl rfl (sx_mid (wa := (wS4 G ad C1 C2 C3 dp)) (wc := (wST G ad qc qb V F T L tc n CH BE cd rf)) (wb := []) hP) hl.1 rfl (Nat.le_of_ble_eq_true rfl) d_SC_open_29 ⟨Nat.zero_le _, Nat.zero_le _⟩ ?_
  refine sx_iast (i := dp) C0 hP hD hS 1 rfl rfl hd (by decide) d_SC_open_32 (fun H locs hP hD hS => ?_)
  have hP : va_P G.1 sx_cls ([(ad 0, .inr (0, [.ref (ad 1), .ref (ad 2), .ref (ad 3), .ref (ad 4), .int (nI dp)])), (ad 2, .inl (G.2 0, 30, .inl (upd C1 dp (nI cd)))), (ad 3, .inl (G.2 0, 30, .inl C2)), (ad 4, .inl (G.2 0, 30, .inl C3)), (ad 1, .inr (1, [.ref (ad 5), .ref (ad 6), .ref (ad 7), .ref (ad 8), .int (nI tc), .ref qc, .ref qb, .int (nI cd), .int rf])), (ad 5, .inl (G.2 1, 256, .inr (.inl V))), (ad 6, .inl (G.2 1, 256, .inr (.inl F))), (ad 7, .inl (G.2 2, 256, .inl T)), (ad 8, .inl (G.2 0, 256, .inl L)), (qc, .inl (G.2 0, n, .inl CH)), (qb, .inl (G.2 1, n, .inr (.inl BE)))]) H := hP
  have hD : va_D A ([(ad 0, .inr (0, [.ref (ad 1), .ref (ad 2), .ref (ad 3), .ref (ad 4), .int (nI dp)])), (ad 2, .inl (G.2 0, 30, .inl (upd C1 dp (nI cd)))), (ad 3, .inl (G.2 0, 30, .inl C2)), (ad 4, .inl (G.2 0, 30, .inl C3)), (ad 1, .inr (1, [.ref (ad 5), .ref (ad 6), .ref (ad 7), .ref (ad 8), .int (nI tc), .ref qc, .ref qb, .int (nI cd), .int rf])), (ad 5, .inl (G.2 1, 256, .inr (.inl V))), (ad 6, .inl (G.2 1, 256, .inr (.inl F))), (ad 7, .inl (G.2 2, 256, .inl T)), (ad 8, .inl (G.2 0, 256, .inl L)), (qc, .inl (G.2 0, n, .inl CH)), (qb, .inl (G.2 1, n, .inr (.inl BE)))]) := hD
  refine lv_aload_n hx hb d_SC_open_33 rfl (lv_at hl 0 rfl) ?_
  refine sx_get C0 hP 0 rfl rfl 2 (by decide) f_SC_20 rfl rfl d_SC_open_34 ?_
  refine lv_aload_n hx hb d_SC_open_37 rfl (lv_at hl 0 rfl) ?_
  refine sx_get C0 hP 0 rfl rfl 4 (by decide) f_SC_32 rfl rfl d_SC_open_38 ?_
  refine lv_aload_n hx hb d_SC_open_41 rfl (lv_at hl 0 rfl) ?_
  refine sx_get C0 hP 0 rfl rfl 0 (by decide) f_SC_10 rfl rfl d_SC_open_42 ?_
  refine sx_cVP (As := []) (rest := [.int (nI dp), .ref (ad 3)]) (wc := (wST G ad qc qb V F T L tc n CH BE cd rf)) (k0 := 0) C0 c_ST_touchedCount q_SC_46 i_ST_touchedCount ⟨Nat.le_of_ble_eq_true rfl, Nat.le_of_ble_eq_true rfl⟩ rfl rfl rfl (sx_mid (wa := (wS4 G ad (upd C1 dp (nI cd)) C2 C3 dp)) (wc := (wST G ad qc qb V F T L tc n CH BE cd rf)) (wb := []) hP) hl.1 rfl (Nat.le_of_ble_eq_true rfl) d_SC_open_45 ⟨Nat.zero_le _, Nat.zero_le _⟩ ?_
  refine sx_iast (i := dp) C0 hP hD hS 2 rfl rfl hd (by decide) d_SC_open_48 (fun H locs hP hD hS => ?_)
  have hP : va_P G.1 sx_cls ([(ad 0, .inr (0, [.ref (ad 1), .ref (ad 2), .ref (ad 3), .ref (ad 4), .int (nI dp)])), (ad 2, .inl (G.2 0, 30, .inl (upd C1 dp (nI cd)))), (ad 3, .inl (G.2 0, 30, .inl (upd C2 dp (nI tc)))), (ad 4, .inl (G.2 0, 30, .inl C3)), (ad 1, .inr (1, [.ref (ad 5), .ref (ad 6), .ref (ad 7), .ref (ad 8), .int (nI tc), .ref qc, .ref qb, .int (nI cd), .int rf])), (ad 5, .inl (G.2 1, 256, .inr (.inl V))), (ad 6, .inl (G.2 1, 256, .inr (.inl F))), (ad 7, .inl (G.2 2, 256, .inl T)), (ad 8, .inl (G.2 0, 256, .inl L)), (qc, .inl (G.2 0, n, .inl CH)), (qb, .inl (G.2 1, n, .inr (.inl BE)))]) H := hP
  have hD : va_D A ([(ad 0, .inr (0, [.ref (ad 1), .ref (ad 2), .ref (ad 3), .ref (ad 4), .int (nI dp)])), (ad 2, .inl (G.2 0, 30, .inl (upd C1 dp (nI cd)))), (ad 3, .inl (G.2 0, 30, .inl (upd C2 dp (nI tc)))), (ad 4, .inl (G.2 0, 30, .inl C3)), (ad 1, .inr (1, [.ref (ad 5), .ref (ad 6), .ref (ad 7), .ref (ad 8), .int (nI tc), .ref qc, .ref qb, .int (nI cd), .int rf])), (ad 5, .inl (G.2 1, 256, .inr (.inl V))), (ad 6, .inl (G.2 1, 256, .inr (.inl F))), (ad 7, .inl (G.2 2, 256, .inl T)), (ad 8, .inl (G.2 0, 256, .inl L)), (qc, .inl (G.2 0, n, .inl CH)), (qb, .inl (G.2 1, n, .inr (.inl BE)))]) := hD
  refine lv_aload_n hx hb d_SC_open_49 rfl (lv_at hl 0 rfl) ?_
  refine sx_get C0 hP 0 rfl rfl 3 (by decide) f_SC_23 rfl rfl d_SC_open_50 ?_
  refine lv_aload_n hx hb d_SC_open_53 rfl (lv_at hl 0 rfl) ?_
  refine sx_get C0 hP 0 rfl rfl 4 (by decide) f_SC_32 rfl rfl d_SC_open_54 ?_
  refine lv_aload_n hx hb d_SC_open_57 rfl (lv_at hl 0 rfl) ?_
  refine sx_get C0 hP 0 rfl rfl 0 (by decide) f_SC_10 rfl rfl d_SC_open_58 ?_
  refine sx_cVP (As := []) (rest := [.int (nI dp), .ref (ad 4)]) (wc := (wST G ad qc qb V F T L tc n CH BE cd rf)) (k0 := 0) C0 c_ST_refund q_SC_49 i_ST_refund ⟨Nat.le_of_ble_eq_true rfl, Nat.le_of_ble_eq_true rfl⟩ rfl rfl rfl (sx_mid (wa := (wS4 G ad (upd C1 dp (nI cd)) (upd C2 dp (nI tc)) C3 dp)) (wc := (wST G ad qc qb V F T L tc n CH BE cd rf)) (wb := []) hP) hl.1 rfl (Nat.le_of_ble_eq_true rfl) d_SC_open_61 ⟨Nat.zero_le _, Nat.zero_le _⟩ ?_
  refine sx_iast (i := dp) C0 hP hD hS 3 rfl rfl hd (by decide) d_SC_open_64 (fun H locs hP hD hS => ?_)
  have hP : va_P G.1 sx_cls ([(ad 0, .inr (0, [.ref (ad 1), .ref (ad 2), .ref (ad 3), .ref (ad 4), .int (nI dp)])), (ad 2, .inl (G.2 0, 30, .inl (upd C1 dp (nI cd)))), (ad 3, .inl (G.2 0, 30, .inl (upd C2 dp (nI tc)))), (ad 4, .inl (G.2 0, 30, .inl (upd C3 dp rf))), (ad 1, .inr (1, [.ref (ad 5), .ref (ad 6), .ref (ad 7), .ref (ad 8), .int (nI tc), .ref qc, .ref qb, .int (nI cd), .int rf])), (ad 5, .inl (G.2 1, 256, .inr (.inl V))), (ad 6, .inl (G.2 1, 256, .inr (.inl F))), (ad 7, .inl (G.2 2, 256, .inl T)), (ad 8, .inl (G.2 0, 256, .inl L)), (qc, .inl (G.2 0, n, .inl CH)), (qb, .inl (G.2 1, n, .inr (.inl BE)))]) H := hP
  have hD : va_D A ([(ad 0, .inr (0, [.ref (ad 1), .ref (ad 2), .ref (ad 3), .ref (ad 4), .int (nI dp)])), (ad 2, .inl (G.2 0, 30, .inl (upd C1 dp (nI cd)))), (ad 3, .inl (G.2 0, 30, .inl (upd C2 dp (nI tc)))), (ad 4, .inl (G.2 0, 30, .inl (upd C3 dp rf))), (ad 1, .inr (1, [.ref (ad 5), .ref (ad 6), .ref (ad 7), .ref (ad 8), .int (nI tc), .ref qc, .ref qb, .int (nI cd), .int rf])), (ad 5, .inl (G.2 1, 256, .inr (.inl V))), (ad 6, .inl (G.2 1, 256, .inr (.inl F))), (ad 7, .inl (G.2 2, 256, .inl T)), (ad 8, .inl (G.2 0, 256, .inl L)), (qc, .inl (G.2 0, n, .inl CH)), (qb, .inl (G.2 1, n, .inr (.inl BE)))]) := hD
  refine lv_aload_n hx hb d_SC_open_65 rfl (lv_at hl 0 rfl) ?_
  refine lv_dup hx hb d_SC_open_66 rfl ?_
  refine sx_get C0 hP 0 rfl rfl 4 (by decide) f_SC_32 rfl rfl d_SC_open_67 ?_
  refine lv_iconst (v := 1) hx hb d_SC_open_70 (by decide) ?_
  refine lv_iadd hx hb d_SC_open_71 ?_
  refine sx_topi (y := nI (dp + 1)) (nI_1 dp) ?_
  refine sx_put (ty := .int) C0 hP hD hS 0 rfl rfl 4 (by decide) f_SC_32 rfl rfl (by decide +kernel) rfl rfl (Nat.le_of_ble_eq_true rfl) d_SC_open_72 (fun H locs hP hD hS => ?_)
  have hP : va_P G.1 sx_cls ([(ad 0, .inr (0, [.ref (ad 1), .ref (ad 2), .ref (ad 3), .ref (ad 4), .int (nI (dp + 1))])), (ad 2, .inl (G.2 0, 30, .inl (upd C1 dp (nI cd)))), (ad 3, .inl (G.2 0, 30, .inl (upd C2 dp (nI tc)))), (ad 4, .inl (G.2 0, 30, .inl (upd C3 dp rf))), (ad 1, .inr (1, [.ref (ad 5), .ref (ad 6), .ref (ad 7), .ref (ad 8), .int (nI tc), .ref qc, .ref qb, .int (nI cd), .int rf])), (ad 5, .inl (G.2 1, 256, .inr (.inl V))), (ad 6, .inl (G.2 1, 256, .inr (.inl F))), (ad 7, .inl (G.2 2, 256, .inl T)), (ad 8, .inl (G.2 0, 256, .inl L)), (qc, .inl (G.2 0, n, .inl CH)), (qb, .inl (G.2 1, n, .inr (.inl BE)))]) H := hP
  have hD : va_D A ([(ad 0, .inr (0, [.ref (ad 1), .ref (ad 2), .ref (ad 3), .ref (ad 4), .int (nI (dp + 1))])), (ad 2, .inl (G.2 0, 30, .inl (upd C1 dp (nI cd)))), (ad 3, .inl (G.2 0, 30, .inl (upd C2 dp (nI tc)))), (ad 4, .inl (G.2 0, 30, .inl (upd C3 dp rf))), (ad 1, .inr (1, [.ref (ad 5), .ref (ad 6), .ref (ad 7), .ref (ad 8), .int (nI tc), .ref qc, .ref qb, .int (nI cd), .int rf])), (ad 5, .inl (G.2 1, 256, .inr (.inl V))), (ad 6, .inl (G.2 1, 256, .inr (.inl F))), (ad 7, .inl (G.2 2, 256, .inl T)), (ad 8, .inl (G.2 0, 256, .inl L)), (qc, .inl (G.2 0, n, .inl CH)), (qb, .inl (G.2 1, n, .inr (.inl BE)))]) := hD
  refine lv_aload_n hx hb d_SC_open_75 rfl (lv_at hl 0 rfl) ?_
  refine sx_get C0 hP 0 rfl rfl 4 (by decide) f_SC_32 rfl rfl d_SC_open_76 ?_
  exact sx_iret C0 hr hlk hS ⟨rfl, hP, hD⟩ d_SC_open_79
theorem x_SC_open (hfl : l.flags = flags0) (hd : dp = 30) : sx_CtrX l y_SC_open w_SC_open (sx_rm 6 1 6 90) G [.ref (ad 0)] (wSC G ad qc qb V F T L tc n CH BE cd rf C1 C2 C3 dp) E_IOE := by
  subst hd
  refine sx_CtrX.of (by decide +kernel) (Nat.le_of_ble_eq_true rfl) ?_
  intro p e s m below meth c9 ls hadm C0 he hlk hl hP hTS
  have C0 : sx_C p s m c9 b_SC_open 1 sx_SC G := C0
  have hx := C0.1
  have hb := C0.2.1
  have hl : lv_has ls 1 [(0, .ref (ad 0))] := hl
  refine lv_aload_n hx hb d_SC_open_0 rfl (lv_at hl 0 rfl) ?_
  refine sx_get C0 hP 0 rfl rfl 4 (by decide) f_SC_32 rfl rfl d_SC_open_1 ?_
  refine lv_bipush (v := nI 30) hx hb d_SC_open_4 (by decide +kernel) ?_
  refine lv_icmp_ne (tgt := 17) hx hb d_SC_open_6 (by decide) (fun z => absurd (rfl) z) (fun _ => ?_)
  exact sx_throw C0 (Launch.traces_off hfl hadm) hTS (Nat.le_refl _) sx_at_IOE (by decide +kernel) sx_cl_IOE sx_ins_IOE sx_ini_IOE he hlk hl.1 (Nat.le_of_ble_eq_true rfl) ⟨Nat.le_of_ble_eq_true rfl, Nat.le_of_ble_eq_true rfl⟩ ⟨Nat.le_of_ble_eq_true rfl, Nat.le_of_ble_eq_true rfl⟩ d_SC_open_9 d_SC_open_12 d_SC_open_13 d_SC_open_16
theorem c_SC_close1 {g : Int32} (hd : dp < 30) (hg : ¬ g = 0) : sx_Ctr l y_SC_close w_SC_close (sx_rm 0 0 0 0) G [.ref (ad 0), .int g] (wSC G ad qc qb V F T L tc n CH BE cd rf C1 C2 C3 (dp + 1)) (sx_is G (some (.int (nI dp))) (wSC G ad qc qb V F T L tc n CH BE cd rf C1 C2 C3 dp)) := by
  refine sx_Ctr.of (by decide +kernel) (Nat.le_of_ble_eq_true rfl) ?_
  intro p e s m below meth c9 ls A C0 hr hlk hnm hl hP hD hA hS
  have C0 : sx_C p s m c9 b_SC_close 2 sx_SC G := C0
  have hx := C0.1
  have hb := C0.2.1
  have hl : lv_has ls 2 [(0, .ref (ad 0)), (1, .int g)] := hl
  refine lv_aload_n hx hb d_SC_close_0 rfl (lv_at hl 0 rfl) ?_
  refine sx_get C0 hP 0 rfl rfl 4 (by decide) f_SC_32 rfl rfl d_SC_close_1 ?_
  refine lv_if_ne (tgt := 15) hx hb d_SC_close_4 (by decide) (fun _ => ?_) (fun z => absurd z (nI_ne0 (by omega) (by omega)))
  refine lv_aload_n hx hb d_SC_close_15 rfl (lv_at hl 0 rfl) ?_
  refine lv_dup hx hb d_SC_close_16 rfl ?_
  refine sx_get C0 hP 0 rfl rfl 4 (by decide) f_SC_32 rfl rfl d_SC_close_17 ?_
  refine lv_iconst (v := 1) hx hb d_SC_close_20 (by decide) ?_
  refine lv_isub hx hb d_SC_close_21 ?_
  refine sx_topi (y := nI dp) (nI_pred dp) ?_
  refine sx_put (ty := .int) C0 hP hD hS 0 rfl rfl 4 (by decide) f_SC_32 rfl rfl (by decide +kernel) rfl rfl (Nat.le_of_ble_eq_true rfl) d_SC_close_22 (fun H locs hP hD hS => ?_)
  have hP : va_P G.1 sx_cls ([(ad 0, .inr (0, [.ref (ad 1), .ref (ad 2), .ref (ad 3), .ref (ad 4), .int (nI dp)])), (ad 2, .inl (G.2 0, 30, .inl C1)), (ad 3, .inl (G.2 0, 30, .inl C2)), (ad 4, .inl (G.2 0, 30, .inl C3)), (ad 1, .inr (1, [.ref (ad 5), .ref (ad 6), .ref (ad 7), .ref (ad 8), .int (nI tc), .ref qc, .ref qb, .int (nI cd), .int rf])), (ad 5, .inl (G.2 1, 256, .inr (.inl V))), (ad 6, .inl (G.2 1, 256, .inr (.inl F))), (ad 7, .inl (G.2 2, 256, .inl T)), (ad 8, .inl (G.2 0, 256, .inl L)), (qc, .inl (G.2 0, n, .inl CH)), (qb, .inl (G.2 1, n, .inr (.inl BE)))]) H := hP
  have hD : va_D A ([(ad 0, .inr (0, [.ref (ad 1), .ref (ad 2), .ref (ad 3), .ref (ad 4), .int (nI dp)])), (ad 2, .inl (G.2 0, 30, .inl C1)), (ad 3, .inl (G.2 0, 30, .inl C2)), (ad 4, .inl (G.2 0, 30, .inl C3)), (ad 1, .inr (1, [.ref (ad 5), .ref (ad 6), .ref (ad 7), .ref (ad 8), .int (nI tc), .ref qc, .ref qb, .int (nI cd), .int rf])), (ad 5, .inl (G.2 1, 256, .inr (.inl V))), (ad 6, .inl (G.2 1, 256, .inr (.inl F))), (ad 7, .inl (G.2 2, 256, .inl T)), (ad 8, .inl (G.2 0, 256, .inl L)), (qc, .inl (G.2 0, n, .inl CH)), (qb, .inl (G.2 1, n, .inr (.inl BE)))]) := hD
  refine lv_iload_n hx hb d_SC_close_25 rfl (lv_at hl 1 rfl) ?_
  refine lv_if_ne (tgt := 63) hx hb d_SC_close_26 (by decide) (fun _ => ?_) (fun z => absurd z (hg))
  refine lv_aload_n hx hb d_SC_close_63 rfl (lv_at hl 0 rfl) ?_
  refine sx_get C0 hP 0 rfl rfl 4 (by decide) f_SC_32 rfl rfl d_SC_close_64 ?_
  exact sx_iret C0 hr hlk hS ⟨rfl, hP, hD⟩ d_SC_close_67
theorem c_SC_close0 {g : Int32} {c0 t0 : Nat} (hd : dp < 30) (hg : g = 0) (h1 : C1 dp = nI c0) (h2 : C2 dp = nI t0) (hc : c0 ≤ cd) (ht : t0 ≤ tc) (hcn : cd ≤ n) (hn : n < 2 ^ 31) (htc : tc ≤ 256) (hCH : p_ix CH cd) (hL : p_ix L tc) : sx_Ctr l y_SC_close w_SC_close (sx_rm 1 0 0 23) G [.ref (ad 0), .int g] (wSC G ad qc qb V F T L tc n CH BE cd rf C1 C2 C3 (dp + 1)) (sx_is G (some (.int (nI dp))) (wSC G ad qc qb (p_und CH BE c0 cd V) F (p_unt L t0 tc T) L t0 n CH BE c0 (C3 dp) C1 C2 C3 dp)) := by
  refine sx_Ctr.of (by decide +kernel) (Nat.le_of_ble_eq_true rfl) ?_
  intro p e s m below meth c9 ls A C0 hr hlk hnm hl hP hD hA hS
  have C0 : sx_C p s m c9 b_SC_close 2 sx_SC G := C0
  have hx := C0.1
  have hb := C0.2.1
  have hl : lv_has ls 2 [(0, .ref (ad 0)), (1, .int g)] := hl
  refine lv_aload_n hx hb d_SC_close_0 rfl (lv_at hl 0 rfl) ?_
  refine sx_get C0 hP 0 rfl rfl 4 (by decide) f_SC_32 rfl rfl d_SC_close_1 ?_
  refine lv_if_ne (tgt := 15) hx hb d_SC_close_4 (by decide) (fun _ => ?_) (fun z => absurd z (nI_ne0 (by omega) (by omega)))
  refine lv_aload_n hx hb d_SC_close_15 rfl (lv_at hl 0 rfl) ?_
  refine lv_dup hx hb d_SC_close_16 rfl ?_
  refine sx_get C0 hP 0 rfl rfl 4 (by decide) f_SC_32 rfl rfl d_SC_close_17 ?_
  refine lv_iconst (v := 1) hx hb d_SC_close_20 (by decide) ?_
  refine lv_isub hx hb d_SC_close_21 ?_
  refine sx_topi (y := nI dp) (nI_pred dp) ?_
  refine sx_put (ty := .int) C0 hP hD hS 0 rfl rfl 4 (by decide) f_SC_32 rfl rfl (by decide +kernel) rfl rfl (Nat.le_of_ble_eq_true rfl) d_SC_close_22 (fun H locs hP hD hS => ?_)
  have hP : va_P G.1 sx_cls ([(ad 0, .inr (0, [.ref (ad 1), .ref (ad 2), .ref (ad 3), .ref (ad 4), .int (nI dp)])), (ad 2, .inl (G.2 0, 30, .inl C1)), (ad 3, .inl (G.2 0, 30, .inl C2)), (ad 4, .inl (G.2 0, 30, .inl C3)), (ad 1, .inr (1, [.ref (ad 5), .ref (ad 6), .ref (ad 7), .ref (ad 8), .int (nI tc), .ref qc, .ref qb, .int (nI cd), .int rf])), (ad 5, .inl (G.2 1, 256, .inr (.inl V))), (ad 6, .inl (G.2 1, 256, .inr (.inl F))), (ad 7, .inl (G.2 2, 256, .inl T)), (ad 8, .inl (G.2 0, 256, .inl L)), (qc, .inl (G.2 0, n, .inl CH)), (qb, .inl (G.2 1, n, .inr (.inl BE)))]) H := hP
  have hD : va_D A ([(ad 0, .inr (0, [.ref (ad 1), .ref (ad 2), .ref (ad 3), .ref (ad 4), .int (nI dp)])), (ad 2, .inl (G.2 0, 30, .inl C1)), (ad 3, .inl (G.2 0, 30, .inl C2)), (ad 4, .inl (G.2 0, 30, .inl C3)), (ad 1, .inr (1, [.ref (ad 5), .ref (ad 6), .ref (ad 7), .ref (ad 8), .int (nI tc), .ref qc, .ref qb, .int (nI cd), .int rf])), (ad 5, .inl (G.2 1, 256, .inr (.inl V))), (ad 6, .inl (G.2 1, 256, .inr (.inl F))), (ad 7, .inl (G.2 2, 256, .inl T)), (ad 8, .inl (G.2 0, 256, .inl L)), (qc, .inl (G.2 0, n, .inl CH)), (qb, .inl (G.2 1, n, .inr (.inl BE)))]) := hD
  refine lv_iload_n hx hb d_SC_close_25 rfl (lv_at hl 1 rfl) ?_
  refine lv_if_ne (tgt := 63) hx hb d_SC_close_26 (by decide) (fun z => absurd (hg) z) (fun _ => ?_)
  refine lv_aload_n hx hb d_SC_close_29 rfl (lv_at hl 0 rfl) ?_
  refine sx_get C0 hP 0 rfl rfl 0 (by decide) f_SC_10 rfl rfl d_SC_close_30 ?_
  refine lv_aload_n hx hb d_SC_close_33 rfl (lv_at hl 0 rfl) ?_
  refine sx_get C0 hP 0 rfl rfl 1 (by decide) f_SC_16 rfl rfl d_SC_close_34 ?_
  refine lv_aload_n hx hb d_SC_close_37 rfl (lv_at hl 0 rfl) ?_
  refine sx_get C0 hP 0 rfl rfl 4 (by decide) f_SC_32 rfl rfl d_SC_close_38 ?_
  refine sx_iald (i := dp) (v := nI c0) C0 hP 1 rfl rfl hd (by decide) h1 d_SC_close_41 ?_
  refine lv_aload_n hx hb d_SC_close_42 rfl (lv_at hl 0 rfl) ?_
  refine sx_get C0 hP 0 rfl rfl 2 (by decide) f_SC_20 rfl rfl d_SC_close_43 ?_
  refine lv_aload_n hx hb d_SC_close_46 rfl (lv_at hl 0 rfl) ?_
  refine sx_get C0 hP 0 rfl rfl 4 (by decide) f_SC_32 rfl rfl d_SC_close_47 ?_
  refine sx_iald (i := dp) (v := nI t0) C0 hP 2 rfl rfl hd (by decide) h2 d_SC_close_50 ?_
  refine lv_aload_n hx hb d_SC_close_51 rfl (lv_at hl 0 rfl) ?_
  refine sx_get C0 hP 0 rfl rfl 3 (by decide) f_SC_23 rfl rfl d_SC_close_52 ?_
  refine lv_aload_n hx hb d_SC_close_55 rfl (lv_at hl 0 rfl) ?_
  refine sx_get C0 hP 0 rfl rfl 4 (by decide) f_SC_32 rfl rfl d_SC_close_56 ?_
  refine sx_iald (i := dp) (v := C3 dp) C0 hP 3 rfl rfl hd (by decide) rfl d_SC_close_59 ?_
  refine sx_cV (As := [.int (nI c0), .int (nI t0), .int (C3 dp)]) (rest := []) (wa := (wS4 G ad C1 C2 C3 dp)) (wb := []) (k0 := 0) C0 (c_ST_back hc ht hcn hn htc hCH hL) q_SC_55 i_ST_back ⟨Nat.le_of_ble_eq_true rfl, Nat.le_of_ble_eq_true rfl⟩ rfl rfl rfl hP hD hS hA hl.1 rfl (Nat.zero_le _) d_SC_close_60 ⟨Nat.le_of_ble_eq_true rfl, Nat.le_of_ble_eq_true rfl⟩ (fun v H locs hq hj hS => ?_)
  obtain ⟨rfl, hP1, hD1⟩ := hq
  obtain ⟨hP, hD⟩ := hj _ hP1 hD1
  have hP : va_P G.1 sx_cls ([(ad 0, .inr (0, [.ref (ad 1), .ref (ad 2), .ref (ad 3), .ref (ad 4), .int (nI dp)])), (ad 2, .inl (G.2 0, 30, .inl C1)), (ad 3, .inl (G.2 0, 30, .inl C2)), (ad 4, .inl (G.2 0, 30, .inl C3)), (ad 1, .inr (1, [.ref (ad 5), .ref (ad 6), .ref (ad 7), .ref (ad 8), .int (nI t0), .ref qc, .ref qb, .int (nI c0), .int (C3 dp)])), (ad 5, .inl (G.2 1, 256, .inr (.inl (p_und CH BE c0 cd V)))), (ad 6, .inl (G.2 1, 256, .inr (.inl F))), (ad 7, .inl (G.2 2, 256, .inl (p_unt L t0 tc T))), (ad 8, .inl (G.2 0, 256, .inl L)), (qc, .inl (G.2 0, n, .inl CH)), (qb, .inl (G.2 1, n, .inr (.inl BE)))]) H := hP
  have hD : va_D A ([(ad 0, .inr (0, [.ref (ad 1), .ref (ad 2), .ref (ad 3), .ref (ad 4), .int (nI dp)])), (ad 2, .inl (G.2 0, 30, .inl C1)), (ad 3, .inl (G.2 0, 30, .inl C2)), (ad 4, .inl (G.2 0, 30, .inl C3)), (ad 1, .inr (1, [.ref (ad 5), .ref (ad 6), .ref (ad 7), .ref (ad 8), .int (nI t0), .ref qc, .ref qb, .int (nI c0), .int (C3 dp)])), (ad 5, .inl (G.2 1, 256, .inr (.inl (p_und CH BE c0 cd V)))), (ad 6, .inl (G.2 1, 256, .inr (.inl F))), (ad 7, .inl (G.2 2, 256, .inl (p_unt L t0 tc T))), (ad 8, .inl (G.2 0, 256, .inl L)), (qc, .inl (G.2 0, n, .inl CH)), (qb, .inl (G.2 1, n, .inr (.inl BE)))]) := hD
  refine lv_aload_n hx hb d_SC_close_63 rfl (lv_at hl 0 rfl) ?_
  refine sx_get C0 hP 0 rfl rfl 4 (by decide) f_SC_32 rfl rfl d_SC_close_64 ?_
  exact sx_iret C0 hr hlk hS ⟨rfl, hP, hD⟩ d_SC_close_67
theorem x_SC_close {g : Int32} (hfl : l.flags = flags0) (hd : dp = 0) : sx_CtrX l y_SC_close w_SC_close (sx_rm 6 1 6 90) G [.ref (ad 0), .int g] (wSC G ad qc qb V F T L tc n CH BE cd rf C1 C2 C3 dp) E_ISE := by
  subst hd
  refine sx_CtrX.of (by decide +kernel) (Nat.le_of_ble_eq_true rfl) ?_
  intro p e s m below meth c9 ls hadm C0 he hlk hl hP hTS
  have C0 : sx_C p s m c9 b_SC_close 2 sx_SC G := C0
  have hx := C0.1
  have hb := C0.2.1
  have hl : lv_has ls 2 [(0, .ref (ad 0)), (1, .int g)] := hl
  refine lv_aload_n hx hb d_SC_close_0 rfl (lv_at hl 0 rfl) ?_
  refine sx_get C0 hP 0 rfl rfl 4 (by decide) f_SC_32 rfl rfl d_SC_close_1 ?_
  refine lv_if_ne (tgt := 15) hx hb d_SC_close_4 (by decide) (fun z => absurd (nI_0) z) (fun _ => ?_)
  exact sx_throw C0 (Launch.traces_off hfl hadm) hTS (Nat.le_refl _) sx_at_ISE (by decide +kernel) sx_cl_ISE sx_ins_ISE sx_ini_ISE he hlk hl.1 (Nat.le_of_ble_eq_true rfl) ⟨Nat.le_of_ble_eq_true rfl, Nat.le_of_ble_eq_true rfl⟩ ⟨Nat.le_of_ble_eq_true rfl, Nat.le_of_ble_eq_true rfl⟩ d_SC_close_7 d_SC_close_10 d_SC_close_11 d_SC_close_14
theorem c_SC_init {a : Nat} : sx_Ctr l y_SC_init w_SC_init (sx_rm 2 10 1251 40) G [.ref a] [(a, .inr (0, [.null, .null, .null, .null, .int 0]))] (fun v A H => ∃ q1 q2 q3 q4 q5 q6 q7 q8 qc qb : Nat, v = none ∧ va_P G.1 sx_cls (wSC G (fun i => match i with | 0 => a | 1 => q1 | 2 => q2 | 3 => q3 | 4 => q4 | 5 => q5 | 6 => q6 | 7 => q7 | _ => q8) qc qb (fun _ => 0) (fun _ => 0) (fun _ => 0) (fun _ => 0) 0 64 (fun _ => 0) (fun _ => 0) 0 0 (fun _ => 0) (fun _ => 0) (fun _ => 0) 0) H ∧ va_D A (wSC G (fun i => match i with | 0 => a | 1 => q1 | 2 => q2 | 3 => q3 | 4 => q4 | 5 => q5 | 6 => q6 | 7 => q7 | _ => q8) qc qb (fun _ => 0) (fun _ => 0) (fun _ => 0) (fun _ => 0) 0 64 (fun _ => 0) (fun _ => 0) 0 0 (fun _ => 0) (fun _ => 0) (fun _ => 0) 0)) := by
  refine sx_Ctr.of (by decide +kernel) (Nat.le_of_ble_eq_true rfl) ?_
  intro p e s m below meth c9 ls A C0 hr hlk hnm hl hP hD hA hS
  have C0 : sx_C p s m c9 b_SC_init 1 sx_SC G := C0
  have hx := C0.1
  have hb := C0.2.1
  have hl : lv_has ls 1 [(0, .ref a)] := hl
  refine lv_aload_n hx hb d_SC_init_0 rfl (lv_at hl 0 rfl) ?_
  refine sx_objInit C0 sx_oi_SC hl.1 (Nat.zero_le _) ⟨Nat.le_of_ble_eq_true rfl, Nat.le_of_ble_eq_true rfl⟩ d_SC_init_1 ?_
  refine lv_aload_n hx hb d_SC_init_4 rfl (lv_at hl 0 rfl) ?_
  refine sx_new (ci := 1) (fs := [.null, .null, .null, .null, .int 0, .null, .null, .int 0, .int 0]) C0 sx_lk_ST sx_is_ST sx_in_ST hP hD hS hA rfl (fun j hj => by
    match j, hj with
    | 0, _ => rfl
    | 1, _ => rfl
    | 2, _ => rfl
    | 3, _ => rfl
    | 4, _ => rfl
    | 5, _ => rfl
    | 6, _ => rfl
    | 7, _ => rfl
    | 8, _ => rfl) ⟨Nat.le_of_ble_eq_true rfl, Nat.le_of_ble_eq_true rfl⟩ d_SC_init_5 (fun q1 H hP hD hS => ?_)
  have hP : va_P G.1 sx_cls ([(a, .inr (0, [.null, .null, .null, .null, .int 0])), (q1, .inr (1, [.null, .null, .null, .null, .int 0, .null, .null, .int 0, .int 0]))]) H := hP
  have hD : va_D A ([(a, .inr (0, [.null, .null, .null, .null, .int 0])), (q1, .inr (1, [.null, .null, .null, .null, .int 0, .null, .null, .int 0, .int 0]))]) := hD
  refine lv_dup hx hb d_SC_init_8 rfl ?_
  refine sx_cIN (As := []) (rest := [.ref q1, .ref a]) (wa := [(a, .inr (0, [.null, .null, .null, .null, .int 0]))]) (wb := []) C0 c_ST_init q_SC_9 i_ST_init rfl ⟨Nat.le_of_ble_eq_true rfl, Nat.le_of_ble_eq_true rfl⟩ rfl hP hD hS hA hl.1 rfl (Nat.le_of_ble_eq_true rfl) d_SC_init_9 ⟨Nat.le_of_ble_eq_true rfl, Nat.le_of_ble_eq_true rfl⟩ (fun v H locs hq hj hS => ?_)
  obtain ⟨q5, q6, q7, q8, qc, qb, rfl, hP1, hD1⟩ := hq
  obtain ⟨hP, hD⟩ := hj _ hP1 hD1
  have hP : va_P G.1 sx_cls ([(a, .inr (0, [.null, .null, .null, .null, .int 0])), (q1, .inr (1, [.ref q5, .ref q6, .ref q7, .ref q8, .int (nI 0), .ref qc, .ref qb, .int (nI 0), .int 0])), (q5, .inl (G.2 1, 256, .inr (.inl (fun _ => 0)))), (q6, .inl (G.2 1, 256, .inr (.inl (fun _ => 0)))), (q7, .inl (G.2 2, 256, .inl (fun _ => 0))), (q8, .inl (G.2 0, 256, .inl (fun _ => 0))), (qc, .inl (G.2 0, 64, .inl (fun _ => 0))), (qb, .inl (G.2 1, 64, .inr (.inl (fun _ => 0))))]) H := hP
  have hD : va_D A ([(a, .inr (0, [.null, .null, .null, .null, .int 0])), (q1, .inr (1, [.ref q5, .ref q6, .ref q7, .ref q8, .int (nI 0), .ref qc, .ref qb, .int (nI 0), .int 0])), (q5, .inl (G.2 1, 256, .inr (.inl (fun _ => 0)))), (q6, .inl (G.2 1, 256, .inr (.inl (fun _ => 0)))), (q7, .inl (G.2 2, 256, .inl (fun _ => 0))), (q8, .inl (G.2 0, 256, .inl (fun _ => 0))), (qc, .inl (G.2 0, 64, .inl (fun _ => 0))), (qb, .inl (G.2 1, 64, .inr (.inl (fun _ => 0))))]) := hD
  refine sx_putF (ty := .object "StorageCosts$Storage") C0 hnm hP hD hS 0 rfl rfl 0 (by decide) f_SC_10 rfl rfl (by decide +kernel) rfl rfl (Nat.le_of_ble_eq_true rfl) d_SC_init_12 (fun H locs hP hD hS => ?_)
  have hP : va_P G.1 sx_cls ([(a, .inr (0, [.ref q1, .null, .null, .null, .int 0])), (q1, .inr (1, [.ref q5, .ref q6, .ref q7, .ref q8, .int (nI 0), .ref qc, .ref qb, .int (nI 0), .int 0])), (q5, .inl (G.2 1, 256, .inr (.inl (fun _ => 0)))), (q6, .inl (G.2 1, 256, .inr (.inl (fun _ => 0)))), (q7, .inl (G.2 2, 256, .inl (fun _ => 0))), (q8, .inl (G.2 0, 256, .inl (fun _ => 0))), (qc, .inl (G.2 0, 64, .inl (fun _ => 0))), (qb, .inl (G.2 1, 64, .inr (.inl (fun _ => 0))))]) H := hP
  have hD : va_D A ([(a, .inr (0, [.ref q1, .null, .null, .null, .int 0])), (q1, .inr (1, [.ref q5, .ref q6, .ref q7, .ref q8, .int (nI 0), .ref qc, .ref qb, .int (nI 0), .int 0])), (q5, .inl (G.2 1, 256, .inr (.inl (fun _ => 0)))), (q6, .inl (G.2 1, 256, .inr (.inl (fun _ => 0)))), (q7, .inl (G.2 2, 256, .inl (fun _ => 0))), (q8, .inl (G.2 0, 256, .inl (fun _ => 0))), (qc, .inl (G.2 0, 64, .inl (fun _ => 0))), (qb, .inl (G.2 1, 64, .inr (.inl (fun _ => 0))))]) := hD
  refine lv_aload_n hx hb d_SC_init_15 rfl (lv_at hl 0 rfl) ?_
  refine lv_bipush (v := nI 30) hx hb d_SC_init_16 (by decide +kernel) ?_
  refine sx_newa (ty := .int) (N' := 30) (a0 := (30, .inl (fun _ => 0))) C0 rfl 0 rfl (fun cA => sx_ra_prim (Or.inl rfl) cA _) sx_ac_int hP hD hS hA (fun _ => rfl) rfl (by decide) (by decide) (Nat.le_of_ble_eq_true rfl) (Nat.le_of_ble_eq_true rfl) d_SC_init_18 (fun q2 H hP hD hS => ?_)
  have hP : va_P G.1 sx_cls ([(a, .inr (0, [.ref q1, .null, .null, .null, .int 0])), (q1, .inr (1, [.ref q5, .ref q6, .ref q7, .ref q8, .int (nI 0), .ref qc, .ref qb, .int (nI 0), .int 0])), (q5, .inl (G.2 1, 256, .inr (.inl (fun _ => 0)))), (q6, .inl (G.2 1, 256, .inr (.inl (fun _ => 0)))), (q7, .inl (G.2 2, 256, .inl (fun _ => 0))), (q8, .inl (G.2 0, 256, .inl (fun _ => 0))), (qc, .inl (G.2 0, 64, .inl (fun _ => 0))), (qb, .inl (G.2 1, 64, .inr (.inl (fun _ => 0)))), (q2, .inl (G.2 0, 30, .inl (fun _ => 0)))]) H := hP
  have hD : va_D A ([(a, .inr (0, [.ref q1, .null, .null, .null, .int 0])), (q1, .inr (1, [.ref q5, .ref q6, .ref q7, .ref q8, .int (nI 0), .ref qc, .ref qb, .int (nI 0), .int 0])), (q5, .inl (G.2 1, 256, .inr (.inl (fun _ => 0)))), (q6, .inl (G.2 1, 256, .inr (.inl (fun _ => 0)))), (q7, .inl (G.2 2, 256, .inl (fun _ => 0))), (q8, .inl (G.2 0, 256, .inl (fun _ => 0))), (qc, .inl (G.2 0, 64, .inl (fun _ => 0))), (qb, .inl (G.2 1, 64, .inr (.inl (fun _ => 0)))), (q2, .inl (G.2 0, 30, .inl (fun _ => 0)))]) := hD
  refine sx_putF (ty := .array .int) C0 hnm hP hD hS 0 rfl rfl 1 (by decide) f_SC_16 rfl rfl (by decide +kernel) rfl rfl (Nat.le_of_ble_eq_true rfl) d_SC_init_20 (fun H locs hP hD hS => ?_)
  have hP : va_P G.1 sx_cls ([(a, .inr (0, [.ref q1, .ref q2, .null, .null, .int 0])), (q1, .inr (1, [.ref q5, .ref q6, .ref q7, .ref q8, .int (nI 0), .ref qc, .ref qb, .int (nI 0), .int 0])), (q5, .inl (G.2 1, 256, .inr (.inl (fun _ => 0)))), (q6, .inl (G.2 1, 256, .inr (.inl (fun _ => 0)))), (q7, .inl (G.2 2, 256, .inl (fun _ => 0))), (q8, .inl (G.2 0, 256, .inl (fun _ => 0))), (qc, .inl (G.2 0, 64, .inl (fun _ => 0))), (qb, .inl (G.2 1, 64, .inr (.inl (fun _ => 0)))), (q2, .inl (G.2 0, 30, .inl (fun _ => 0)))]) H := hP
  have hD : va_D A ([(a, .inr (0, [.ref q1, .ref q2, .null, .null, .int 0])), (q1, .inr (1, [.ref q5, .ref q6, .ref q7, .ref q8, .int (nI 0), .ref qc, .ref qb, .int (nI 0), .int 0])), (q5, .inl (G.2 1, 256, .inr (.inl (fun _ => 0)))), (q6, .inl (G.2 1, 256, .inr (.inl (fun _ => 0)))), (q7, .inl (G.2 2, 256, .inl (fun _ => 0))), (q8, .inl (G.2 0, 256, .inl (fun _ => 0))), (qc, .inl (G.2 0, 64, .inl (fun _ => 0))), (qb, .inl (G.2 1, 64, .inr (.inl (fun _ => 0)))), (q2, .inl (G.2 0, 30, .inl (fun _ => 0)))]) := hD
  refine lv_aload_n hx hb d_SC_init_23 rfl (lv_at hl 0 rfl) ?_
  refine lv_bipush (v := nI 30) hx hb d_SC_init_24 (by decide +kernel) ?_
  refine sx_newa (ty := .int) (N' := 30) (a0 := (30, .inl (fun _ => 0))) C0 rfl 0 rfl (fun cA => sx_ra_prim (Or.inl rfl) cA _) sx_ac_int hP hD hS hA (fun _ => rfl) rfl (by decide) (by decide) (Nat.le_of_ble_eq_true rfl) (Nat.le_of_ble_eq_true rfl) d_SC_init_26 (fun q3 H hP hD hS => ?_)
  have hP : va_P G.1 sx_cls ([(a, .inr (0, [.ref q1, .ref q2, .null, .null, .int 0])), (q1, .inr (1, [.ref q5, .ref q6, .ref q7, .ref q8, .int (nI 0), .ref qc, .ref qb, .int (nI 0), .int 0])), (q5, .inl (G.2 1, 256, .inr (.inl (fun _ => 0)))), (q6, .inl (G.2 1, 256, .inr (.inl (fun _ => 0)))), (q7, .inl (G.2 2, 256, .inl (fun _ => 0))), (q8, .inl (G.2 0, 256, .inl (fun _ => 0))), (qc, .inl (G.2 0, 64, .inl (fun _ => 0))), (qb, .inl (G.2 1, 64, .inr (.inl (fun _ => 0)))), (q2, .inl (G.2 0, 30, .inl (fun _ => 0))), (q3, .inl (G.2 0, 30, .inl (fun _ => 0)))]) H := hP
  have hD : va_D A ([(a, .inr (0, [.ref q1, .ref q2, .null, .null, .int 0])), (q1, .inr (1, [.ref q5, .ref q6, .ref q7, .ref q8, .int (nI 0), .ref qc, .ref qb, .int (nI 0), .int 0])), (q5, .inl (G.2 1, 256, .inr (.inl (fun _ => 0)))), (q6, .inl (G.2 1, 256, .inr (.inl (fun _ => 0)))), (q7, .inl (G.2 2, 256, .inl (fun _ => 0))), (q8, .inl (G.2 0, 256, .inl (fun _ => 0))), (qc, .inl (G.2 0, 64, .inl (fun _ => 0))), (qb, .inl (G.2 1, 64, .inr (.inl (fun _ => 0)))), (q2, .inl (G.2 0, 30, .inl (fun _ => 0))), (q3, .inl (G.2 0, 30, .inl (fun _ => 0)))]) := hD
  refine sx_putF (ty := .array .int) C0 hnm hP hD hS 0 rfl rfl 2 (by decide) f_SC_20 rfl rfl (by decide +kernel) rfl rfl (Nat.le_of_ble_eq_true rfl) d_SC_init_28 (fun H locs hP hD hS => ?_)
  have hP : va_P G.1 sx_cls ([(a, .inr (0, [.ref q1, .ref q2, .ref q3, .null, .int 0])), (q1, .inr (1, [.ref q5, .ref q6, .ref q7, .ref q8, .int (nI 0), .ref qc, .ref qb, .int (nI 0), .int 0])), (q5, .inl (G.2 1, 256, .inr (.inl (fun _ => 0)))), (q6, .inl (G.2 1, 256, .inr (.inl (fun _ => 0)))), (q7, .inl (G.2 2, 256, .inl (fun _ => 0))), (q8, .inl (G.2 0, 256, .inl (fun _ => 0))), (qc, .inl (G.2 0, 64, .inl (fun _ => 0))), (qb, .inl (G.2 1, 64, .inr (.inl (fun _ => 0)))), (q2, .inl (G.2 0, 30, .inl (fun _ => 0))), (q3, .inl (G.2 0, 30, .inl (fun _ => 0)))]) H := hP
  have hD : va_D A ([(a, .inr (0, [.ref q1, .ref q2, .ref q3, .null, .int 0])), (q1, .inr (1, [.ref q5, .ref q6, .ref q7, .ref q8, .int (nI 0), .ref qc, .ref qb, .int (nI 0), .int 0])), (q5, .inl (G.2 1, 256, .inr (.inl (fun _ => 0)))), (q6, .inl (G.2 1, 256, .inr (.inl (fun _ => 0)))), (q7, .inl (G.2 2, 256, .inl (fun _ => 0))), (q8, .inl (G.2 0, 256, .inl (fun _ => 0))), (qc, .inl (G.2 0, 64, .inl (fun _ => 0))), (qb, .inl (G.2 1, 64, .inr (.inl (fun _ => 0)))), (q2, .inl (G.2 0, 30, .inl (fun _ => 0))), (q3, .inl (G.2 0, 30, .inl (fun _ => 0)))]) := hD
  refine lv_aload_n hx hb d_SC_init_31 rfl (lv_at hl 0 rfl) ?_
  refine lv_bipush (v := nI 30) hx hb d_SC_init_32 (by decide +kernel) ?_
  refine sx_newa (ty := .int) (N' := 30) (a0 := (30, .inl (fun _ => 0))) C0 rfl 0 rfl (fun cA => sx_ra_prim (Or.inl rfl) cA _) sx_ac_int hP hD hS hA (fun _ => rfl) rfl (by decide) (by decide) (Nat.le_of_ble_eq_true rfl) (Nat.le_of_ble_eq_true rfl) d_SC_init_34 (fun q4 H hP hD hS => ?_)
  have hP : va_P G.1 sx_cls ([(a, .inr (0, [.ref q1, .ref q2, .ref q3, .null, .int 0])), (q1, .inr (1, [.ref q5, .ref q6, .ref q7, .ref q8, .int (nI 0), .ref qc, .ref qb, .int (nI 0), .int 0])), (q5, .inl (G.2 1, 256, .inr (.inl (fun _ => 0)))), (q6, .inl (G.2 1, 256, .inr (.inl (fun _ => 0)))), (q7, .inl (G.2 2, 256, .inl (fun _ => 0))), (q8, .inl (G.2 0, 256, .inl (fun _ => 0))), (qc, .inl (G.2 0, 64, .inl (fun _ => 0))), (qb, .inl (G.2 1, 64, .inr (.inl (fun _ => 0)))), (q2, .inl (G.2 0, 30, .inl (fun _ => 0))), (q3, .inl (G.2 0, 30, .inl (fun _ => 0))), (q4, .inl (G.2 0, 30, .inl (fun _ => 0)))]) H := hP
  have hD : va_D A ([(a, .inr (0, [.ref q1, .ref q2, .ref q3, .null, .int 0])), (q1, .inr (1, [.ref q5, .ref q6, .ref q7, .ref q8, .int (nI 0), .ref qc, .ref qb, .int (nI 0), .int 0])), (q5, .inl (G.2 1, 256, .inr (.inl (fun _ => 0)))), (q6, .inl (G.2 1, 256, .inr (.inl (fun _ => 0)))), (q7, .inl (G.2 2, 256, .inl (fun _ => 0))), (q8, .inl (G.2 0, 256, .inl (fun _ => 0))), (qc, .inl (G.2 0, 64, .inl (fun _ => 0))), (qb, .inl (G.2 1, 64, .inr (.inl (fun _ => 0)))), (q2, .inl (G.2 0, 30, .inl (fun _ => 0))), (q3, .inl (G.2 0, 30, .inl (fun _ => 0))), (q4, .inl (G.2 0, 30, .inl (fun _ => 0)))]) := hD
  refine sx_putF (ty := .array .int) C0 hnm hP hD hS 0 rfl rfl 3 (by decide) f_SC_23 rfl rfl (by decide +kernel) rfl rfl (Nat.le_of_ble_eq_true rfl) d_SC_init_36 (fun H locs hP hD hS => ?_)
  have hP : va_P G.1 sx_cls ([(a, .inr (0, [.ref q1, .ref q2, .ref q3, .ref q4, .int 0])), (q1, .inr (1, [.ref q5, .ref q6, .ref q7, .ref q8, .int (nI 0), .ref qc, .ref qb, .int (nI 0), .int 0])), (q5, .inl (G.2 1, 256, .inr (.inl (fun _ => 0)))), (q6, .inl (G.2 1, 256, .inr (.inl (fun _ => 0)))), (q7, .inl (G.2 2, 256, .inl (fun _ => 0))), (q8, .inl (G.2 0, 256, .inl (fun _ => 0))), (qc, .inl (G.2 0, 64, .inl (fun _ => 0))), (qb, .inl (G.2 1, 64, .inr (.inl (fun _ => 0)))), (q2, .inl (G.2 0, 30, .inl (fun _ => 0))), (q3, .inl (G.2 0, 30, .inl (fun _ => 0))), (q4, .inl (G.2 0, 30, .inl (fun _ => 0)))]) H := hP
  have hD : va_D A ([(a, .inr (0, [.ref q1, .ref q2, .ref q3, .ref q4, .int 0])), (q1, .inr (1, [.ref q5, .ref q6, .ref q7, .ref q8, .int (nI 0), .ref qc, .ref qb, .int (nI 0), .int 0])), (q5, .inl (G.2 1, 256, .inr (.inl (fun _ => 0)))), (q6, .inl (G.2 1, 256, .inr (.inl (fun _ => 0)))), (q7, .inl (G.2 2, 256, .inl (fun _ => 0))), (q8, .inl (G.2 0, 256, .inl (fun _ => 0))), (qc, .inl (G.2 0, 64, .inl (fun _ => 0))), (qb, .inl (G.2 1, 64, .inr (.inl (fun _ => 0)))), (q2, .inl (G.2 0, 30, .inl (fun _ => 0))), (q3, .inl (G.2 0, 30, .inl (fun _ => 0))), (q4, .inl (G.2 0, 30, .inl (fun _ => 0)))]) := hD
  have hP9 := hP.sub (ws' := (wSC G (fun i => match i with | 0 => a | 1 => q1 | 2 => q2 | 3 => q3 | 4 => q4 | 5 => q5 | 6 => q6 | 7 => q7 | _ => q8) qc qb (fun _ => 0) (fun _ => 0) (fun _ => 0) (fun _ => 0) 0 64 (fun _ => 0) (fun _ => 0) 0 0 (fun _ => 0) (fun _ => 0) (fun _ => 0) 0)) [0, 8, 9, 10, 1, 2, 3, 4, 5, 6, 7] rfl
  have hD9 := hD.sub (ws' := (wSC G (fun i => match i with | 0 => a | 1 => q1 | 2 => q2 | 3 => q3 | 4 => q4 | 5 => q5 | 6 => q6 | 7 => q7 | _ => q8) qc qb (fun _ => 0) (fun _ => 0) (fun _ => 0) (fun _ => 0) 0 64 (fun _ => 0) (fun _ => 0) 0 0 (fun _ => 0) (fun _ => 0) (fun _ => 0) 0)) [0, 8, 9, 10, 1, 2, 3, 4, 5, 6, 7] (by decide) rfl
  exact sx_vret C0 hr hlk hS ⟨q1, q2, q3, q4, q5, q6, q7, q8, qc, qb, rfl, hP9, hD9⟩ d_SC_init_39
end SC1
end
section
/-! StorageCosts: load, store, held, touched, count -/
/-- what touching a place does -/
def p_tch (T L : Nat → Int32) (tc x : Nat) (T' L' : Nat → Int32) (tc' : Nat) : Prop := (¬ T x = 0 ∧ T' = T ∧ L' = L ∧ tc' = tc) ∨ (T x = 0 ∧ T' = upd T x 1 ∧ L' = upd L tc (nI x) ∧ tc' = tc + 1)
/-- what storing does -/
def p_sto (V F : Nat → Int64) (n : Nat) (CH : Nat → Int32) (BE : Nat → Int64) (cd : Nat) (rf : Int32) (x : Nat) (v : Int64) (V' : Nat → Int64) (n' : Nat) (CH' : Nat → Int32) (BE' : Nat → Int64) (cd' : Nat) (rf' : Int32) : Prop :=
  (v = V x ∧ V' = V ∧ n' = n ∧ CH' = CH ∧ BE' = BE ∧ cd' = cd ∧ rf' = rf) ∨ (¬ v = V x ∧ V' = vp_updL V x v ∧ ((cd < n ∧ n' = n) ∨ (cd = n ∧ n' = 2 * n)) ∧ (∃ C0 : Nat → Int32, (∀ i, i < n → C0 i = CH i) ∧ CH' = upd C0 cd (nI x)) ∧ (∃ B0 : Nat → Int64, (∀ i, i < n → B0 i = BE i) ∧ BE' = vp_updL B0 cd (V x)) ∧ cd' = cd + 1 ∧ rf' = rf + p_given (F x) (V x) v)
section SC2
variable {l : Launch} {G : sx_G} {ad : Nat → Nat} {qc qb : Nat} {V F : Nat → Int64} {T L : Nat → Int32} {tc n : Nat} {CH : Nat → Int32} {BE : Nat → Int64} {cd : Nat} {rf : Int32} {C1 C2 C3 : Nat → Int32} {dp : Nat}
theorem c_SC_load {a b : Nat} (ha : a < 4) (hb1 : b < 64) (htc : T (64 * a + b) = 0 → tc < 256) : sx_Ctr l y_SC_load w_SC_load (sx_rm 1 0 0 21) G [.ref (ad 0), .int (nI a), .int (nI b)] (wSC G ad qc qb V F T L tc n CH BE cd rf C1 C2 C3 dp) (fun v A H => ∃ (T' L' : Nat → Int32) (tc' : Nat), v = some (.int (if T (64 * a + b) = 0 then 2100 else 100)) ∧ p_tch T L tc (64 * a + b) T' L' tc' ∧ va_P G.1 sx_cls (wSC G ad qc qb V F T' L' tc' n CH BE cd rf C1 C2 C3 dp) H ∧ va_D A (wSC G ad qc qb V F T' L' tc' n CH BE cd rf C1 C2 C3 dp)) := by
  refine sx_Ctr.of (by decide +kernel) (Nat.le_of_ble_eq_true rfl) ?_
  intro p e s m below meth c9 ls A C0 hr hlk hnm hl hP hD hA hS
  have C0 : sx_C p s m c9 b_SC_load 3 sx_SC G := C0
  have hx := C0.1
  have hb := C0.2.1
  have hl : lv_has ls 3 [(0, .ref (ad 0)), (1, .int (nI a)), (2, .int (nI b))] := hl
  refine lv_aload_n hx hb d_SC_load_0 rfl (lv_at hl 0 rfl) ?_
  refine sx_get C0 hP 0 rfl rfl 0 (by decide) f_SC_10 rfl rfl d_SC_load_1 ?_
  refine lv_iload_n hx hb d_SC_load_4 rfl (lv_at hl 1 rfl) ?_
  refine lv_iload_n hx hb d_SC_load_5 rfl (lv_at hl 2 rfl) ?_
  refine sx_cSP (As := [.int (nI a), .int (nI b)]) (rest := [.ref (ad 1)]) (wc := []) C0 (c_SC_place ha hb1) q_SC_59 i_SC_place ⟨Nat.le_of_ble_eq_true rfl, Nat.le_of_ble_eq_true rfl⟩ rfl (fun k q h => by cases h) hl.1 rfl (Nat.le_of_ble_eq_true rfl) d_SC_load_6 ⟨Nat.zero_le _, Nat.zero_le _⟩ ?_
  by_cases hT : T (64 * a + b) = 0
  · rw [if_pos hT]
    refine sx_cV (As := [.int (nI (64 * a + b))]) (rest := []) (wa := (wS4 G ad C1 C2 C3 dp)) (wb := []) (k0 := 0) C0 (c_ST_touch0 (show 64 * a + b < 256 by omega) (htc hT) hT) q_SC_63 i_ST_touch ⟨Nat.le_of_ble_eq_true rfl, Nat.le_of_ble_eq_true rfl⟩ rfl rfl rfl hP hD hS hA hl.1 rfl (Nat.zero_le _) d_SC_load_9 ⟨Nat.le_of_ble_eq_true rfl, Nat.le_of_ble_eq_true rfl⟩ (fun v H locs hq hj hS => ?_)
    obtain ⟨rfl, hP1, hD1⟩ := hq
    obtain ⟨hP, hD⟩ := hj _ hP1 hD1
    have hP : va_P G.1 sx_cls ([(ad 0, .inr (0, [.ref (ad 1), .ref (ad 2), .ref (ad 3), .ref (ad 4), .int (nI dp)])), (ad 2, .inl (G.2 0, 30, .inl C1)), (ad 3, .inl (G.2 0, 30, .inl C2)), (ad 4, .inl (G.2 0, 30, .inl C3)), (ad 1, .inr (1, [.ref (ad 5), .ref (ad 6), .ref (ad 7), .ref (ad 8), .int (nI (tc + 1)), .ref qc, .ref qb, .int (nI cd), .int rf])), (ad 5, .inl (G.2 1, 256, .inr (.inl V))), (ad 6, .inl (G.2 1, 256, .inr (.inl F))), (ad 7, .inl (G.2 2, 256, .inl (upd T (64 * a + b) 1))), (ad 8, .inl (G.2 0, 256, .inl (upd L tc (nI (64 * a + b))))), (qc, .inl (G.2 0, n, .inl CH)), (qb, .inl (G.2 1, n, .inr (.inl BE)))]) H := hP
    have hD : va_D A ([(ad 0, .inr (0, [.ref (ad 1), .ref (ad 2), .ref (ad 3), .ref (ad 4), .int (nI dp)])), (ad 2, .inl (G.2 0, 30, .inl C1)), (ad 3, .inl (G.2 0, 30, .inl C2)), (ad 4, .inl (G.2 0, 30, .inl C3)), (ad 1, .inr (1, [.ref (ad 5), .ref (ad 6), .ref (ad 7), .ref (ad 8), .int (nI (tc + 1)), .ref qc, .ref qb, .int (nI cd), .int rf])), (ad 5, .inl (G.2 1, 256, .inr (.inl V))), (ad 6, .inl (G.2 1, 256, .inr (.inl F))), (ad 7, .inl (G.2 2, 256, .inl (upd T (64 * a + b) 1))), (ad 8, .inl (G.2 0, 256, .inl (upd L tc (nI (64 * a + b))))), (qc, .inl (G.2 0, n, .inl CH)), (qb, .inl (G.2 1, n, .inr (.inl BE)))]) := hD
    refine lv_if_eq (tgt := 21) hx hb d_SC_load_12 (by decide) (fun z => absurd z ((by decide : ¬ (1 : Int32) = 0))) (fun _ => ?_)
    refine lv_sipush (v := 2100) hx hb d_SC_load_15 (by decide) ?_
    refine lv_goto (tgt := 23) hx hb d_SC_load_18 (by decide) ?_
    exact sx_iret C0 hr hlk hS ⟨_, _, _, rfl, Or.inr ⟨hT, rfl, rfl, rfl⟩, hP, hD⟩ d_SC_load_23
  · rw [if_neg hT]
    refine sx_cVP (As := [.int (nI (64 * a + b))]) (rest := []) (wc := (wST G ad qc qb V F T L tc n CH BE cd rf)) (k0 := 0) C0 (c_ST_touch1 (show 64 * a + b < 256 by omega) hT) q_SC_63 i_ST_touch ⟨Nat.le_of_ble_eq_true rfl, Nat.le_of_ble_eq_true rfl⟩ rfl rfl rfl (sx_mid (wa := (wS4 G ad C1 C2 C3 dp)) (wc := (wST G ad qc qb V F T L tc n CH BE cd rf)) (wb := []) hP) hl.1 rfl (Nat.le_of_ble_eq_true rfl) d_SC_load_9 ⟨Nat.zero_le _, Nat.zero_le _⟩ ?_
    refine lv_if_eq (tgt := 21) hx hb d_SC_load_12 (by decide) (fun _ => ?_) (fun z => absurd (rfl) z)
    refine lv_bipush (v := 100) hx hb d_SC_load_21 (by decide) ?_
    exact sx_iret C0 hr hlk hS ⟨_, _, _, rfl, Or.inl ⟨hT, rfl, rfl, rfl⟩, hP, hD⟩ d_SC_load_23
theorem x_SC_load {o1 p1 : Int32} (hfl : l.flags = flags0) (ho : p_out o1 p1) : sx_CtrX l y_SC_load w_SC_load (sx_rm 7 1 6 111) G [.ref (ad 0), .int o1, .int p1] (wSC G ad qc qb V F T L tc n CH BE cd rf C1 C2 C3 dp) E_IAE := by
  refine sx_CtrX.of (by decide +kernel) (Nat.le_of_ble_eq_true rfl) ?_
  intro p e s m below meth c9 ls hadm C0 he hlk hl hP hTS
  have C0 : sx_C p s m c9 b_SC_load 3 sx_SC G := C0
  have hx := C0.1
  have hb := C0.2.1
  have hl : lv_has ls 3 [(0, .ref (ad 0)), (1, .int o1), (2, .int p1)] := hl
  refine lv_aload_n hx hb d_SC_load_0 rfl (lv_at hl 0 rfl) ?_
  refine sx_get C0 hP 0 rfl rfl 0 (by decide) f_SC_10 rfl rfl d_SC_load_1 ?_
  refine lv_iload_n hx hb d_SC_load_4 rfl (lv_at hl 1 rfl) ?_
  refine lv_iload_n hx hb d_SC_load_5 rfl (lv_at hl 2 rfl) ?_
  refine sx_cSX (As := [.int o1, .int p1]) (rest := [.ref (ad 1)]) (wc := []) C0 hTS ⟨Nat.le_refl _, fun _ _ => rfl⟩ (x_SC_place hfl ho) q_SC_59 i_SC_place ⟨Nat.le_of_ble_eq_true rfl, Nat.le_of_ble_eq_true rfl⟩ rfl (fun k q h => by cases h) hl.1 rfl (Nat.le_of_ble_eq_true rfl) d_SC_load_6 ⟨Nat.le_of_ble_eq_true rfl, Nat.le_of_ble_eq_true rfl⟩ (fun x ce H1 h1 h2 h3 h4 h5 h6 => ?_)
  exact sx_TW.out he hlk h1 h2 h3 h4
theorem c_SC_held1 {a b : Nat} {g : Int32} (ha : a < 4) (hb1 : b < 64) (hg : ¬ g = 0) : sx_CtrP l y_SC_held w_SC_held 1 21 G [.ref (ad 0), .int (nI a), .int (nI b), .int g] (wSC G ad qc qb V F T L tc n CH BE cd rf C1 C2 C3 dp) (.long (F (64 * a + b))) := by
  refine sx_CtrP.of (by decide +kernel) (Nat.le_of_ble_eq_true rfl) ?_
  intro p e s m below meth c9 ls C0 hr hlk hl hP
  have C0 : sx_C p s m c9 b_SC_held 5 sx_SC G := C0
  have hx := C0.1
  have hb := C0.2.1
  have hl : lv_has ls 5 [(0, .ref (ad 0)), (1, .int (nI a)), (2, .int (nI b)), (3, .int g)] := hl
  refine lv_iload_n hx hb d_SC_held_0 rfl (lv_at hl 1 rfl) ?_
  refine lv_iload_n hx hb d_SC_held_1 rfl (lv_at hl 2 rfl) ?_
  refine sx_cSP (As := [.int (nI a), .int (nI b)]) (rest := []) (wc := []) C0 (c_SC_place ha hb1) q_SC_59 i_SC_place ⟨Nat.le_of_ble_eq_true rfl, Nat.le_of_ble_eq_true rfl⟩ rfl (fun k q h => by cases h) hl.1 rfl (Nat.le_of_ble_eq_true rfl) d_SC_held_2 ⟨Nat.zero_le _, Nat.zero_le _⟩ ?_
  refine lv_istore hx hb d_SC_held_5 hl (by decide) rfl (fun ls hl => ?_)
  have hl : lv_has ls 5 [(4, .int (nI (64 * a + b))), (0, .ref (ad 0)), (1, .int (nI a)), (2, .int (nI b)), (3, .int g)] := hl
  refine lv_iload_n hx hb d_SC_held_7 rfl (lv_at hl 4 rfl) ?_
  refine lv_if_eq (tgt := 23) hx hb d_SC_held_8 (by decide) (fun z => absurd z (hg)) (fun _ => ?_)
  refine lv_aload_n hx hb d_SC_held_11 rfl (lv_at hl 1 rfl) ?_
  refine sx_get C0 hP 0 rfl rfl 0 (by decide) f_SC_10 rfl rfl d_SC_held_12 ?_
  refine lv_iload hx hb d_SC_held_15 (lv_at hl 0 rfl) ?_
  refine sx_cVP (As := [.int (nI (64 * a + b))]) (rest := []) (wc := (wST G ad qc qb V F T L tc n CH BE cd rf)) (k0 := 0) C0 (c_ST_first (show 64 * a + b < 256 by omega)) q_SC_75 i_ST_first ⟨Nat.le_of_ble_eq_true rfl, Nat.le_of_ble_eq_true rfl⟩ rfl rfl rfl (sx_mid (wa := (wS4 G ad C1 C2 C3 dp)) (wc := (wST G ad qc qb V F T L tc n CH BE cd rf)) (wb := []) hP) hl.1 rfl (Nat.le_of_ble_eq_true rfl) d_SC_held_17 ⟨Nat.zero_le _, Nat.zero_le _⟩ ?_
  refine lv_goto (tgt := 32) hx hb d_SC_held_20 (by decide) ?_
  exact sx_lretP C0 hr hlk d_SC_held_32
theorem c_SC_held0 {a b : Nat} {g : Int32} (ha : a < 4) (hb1 : b < 64) (hg : g = 0) : sx_CtrP l y_SC_held w_SC_held 1 21 G [.ref (ad 0), .int (nI a), .int (nI b), .int g] (wSC G ad qc qb V F T L tc n CH BE cd rf C1 C2 C3 dp) (.long (V (64 * a + b))) := by
  refine sx_CtrP.of (by decide +kernel) (Nat.le_of_ble_eq_true rfl) ?_
  intro p e s m below meth c9 ls C0 hr hlk hl hP
  have C0 : sx_C p s m c9 b_SC_held 5 sx_SC G := C0
  have hx := C0.1
  have hb := C0.2.1
  have hl : lv_has ls 5 [(0, .ref (ad 0)), (1, .int (nI a)), (2, .int (nI b)), (3, .int g)] := hl
  refine lv_iload_n hx hb d_SC_held_0 rfl (lv_at hl 1 rfl) ?_
  refine lv_iload_n hx hb d_SC_held_1 rfl (lv_at hl 2 rfl) ?_
  refine sx_cSP (As := [.int (nI a), .int (nI b)]) (rest := []) (wc := []) C0 (c_SC_place ha hb1) q_SC_59 i_SC_place ⟨Nat.le_of_ble_eq_true rfl, Nat.le_of_ble_eq_true rfl⟩ rfl (fun k q h => by cases h) hl.1 rfl (Nat.le_of_ble_eq_true rfl) d_SC_held_2 ⟨Nat.zero_le _, Nat.zero_le _⟩ ?_
  refine lv_istore hx hb d_SC_held_5 hl (by decide) rfl (fun ls hl => ?_)
  have hl : lv_has ls 5 [(4, .int (nI (64 * a + b))), (0, .ref (ad 0)), (1, .int (nI a)), (2, .int (nI b)), (3, .int g)] := hl
  refine lv_iload_n hx hb d_SC_held_7 rfl (lv_at hl 4 rfl) ?_
  refine lv_if_eq (tgt := 23) hx hb d_SC_held_8 (by decide) (fun _ => ?_) (fun z => absurd (hg) z)
  refine lv_aload_n hx hb d_SC_held_23 rfl (lv_at hl 1 rfl) ?_
  refine sx_get C0 hP 0 rfl rfl 0 (by decide) f_SC_10 rfl rfl d_SC_held_24 ?_
  refine lv_iload hx hb d_SC_held_27 (lv_at hl 0 rfl) ?_
  refine sx_cVP (As := [.int (nI (64 * a + b))]) (rest := []) (wc := (wST G ad qc qb V F T L tc n CH BE cd rf)) (k0 := 0) C0 (c_ST_value (show 64 * a + b < 256 by omega)) q_SC_79 i_ST_value ⟨Nat.le_of_ble_eq_true rfl, Nat.le_of_ble_eq_true rfl⟩ rfl rfl rfl (sx_mid (wa := (wS4 G ad C1 C2 C3 dp)) (wc := (wST G ad qc qb V F T L tc n CH BE cd rf)) (wb := []) hP) hl.1 rfl (Nat.le_of_ble_eq_true rfl) d_SC_held_29 ⟨Nat.zero_le _, Nat.zero_le _⟩ ?_
  exact sx_lretP C0 hr hlk d_SC_held_32
theorem x_SC_held {o1 p1 g : Int32} (hfl : l.flags = flags0) (ho : p_out o1 p1) : sx_CtrX l y_SC_held w_SC_held (sx_rm 7 1 6 111) G [.ref (ad 0), .int o1, .int p1, .int g] (wSC G ad qc qb V F T L tc n CH BE cd rf C1 C2 C3 dp) E_IAE := by
  refine sx_CtrX.of (by decide +kernel) (Nat.le_of_ble_eq_true rfl) ?_
  intro p e s m below meth c9 ls hadm C0 he hlk hl hP hTS
  have C0 : sx_C p s m c9 b_SC_held 5 sx_SC G := C0
  have hx := C0.1
  have hb := C0.2.1
  have hl : lv_has ls 5 [(0, .ref (ad 0)), (1, .int o1), (2, .int p1), (3, .int g)] := hl
  refine lv_iload_n hx hb d_SC_held_0 rfl (lv_at hl 1 rfl) ?_
  refine lv_iload_n hx hb d_SC_held_1 rfl (lv_at hl 2 rfl) ?_
  refine sx_cSX (As := [.int o1, .int p1]) (rest := []) (wc := []) C0 hTS ⟨Nat.le_refl _, fun _ _ => rfl⟩ (x_SC_place hfl ho) q_SC_59 i_SC_place ⟨Nat.le_of_ble_eq_true rfl, Nat.le_of_ble_eq_true rfl⟩ rfl (fun k q h => by cases h) hl.1 rfl (Nat.le_of_ble_eq_true rfl) d_SC_held_2 ⟨Nat.le_of_ble_eq_true rfl, Nat.le_of_ble_eq_true rfl⟩ (fun x ce H1 h1 h2 h3 h4 h5 h6 => ?_)
  exact sx_TW.out he hlk h1 h2 h3 h4
theorem c_SC_touched {a b : Nat} (ha : a < 4) (hb1 : b < 64) (hz : narrow .boolean (.int (T (64 * a + b))) = .int (T (64 * a + b))) : sx_CtrP l y_SC_touched w_SC_touched 1 21 G [.ref (ad 0), .int (nI a), .int (nI b)] (wSC G ad qc qb V F T L tc n CH BE cd rf C1 C2 C3 dp) (.int (T (64 * a + b))) := by
  refine sx_CtrP.of (by decide +kernel) (Nat.le_of_ble_eq_true rfl) ?_
  intro p e s m below meth c9 ls C0 hr hlk hl hP
  have C0 : sx_C p s m c9 b_SC_touched 3 sx_SC G := C0
  have hx := C0.1
  have hb := C0.2.1
  have hl : lv_has ls 3 [(0, .ref (ad 0)), (1, .int (nI a)), (2, .int (nI b))] := hl
  refine lv_aload_n hx hb d_SC_touched_0 rfl (lv_at hl 0 rfl) ?_
  refine sx_get C0 hP 0 rfl rfl 0 (by decide) f_SC_10 rfl rfl d_SC_touched_1 ?_
  refine lv_iload_n hx hb d_SC_touched_4 rfl (lv_at hl 1 rfl) ?_
  refine lv_iload_n hx hb d_SC_touched_5 rfl (lv_at hl 2 rfl) ?_
  refine sx_cSP (As := [.int (nI a), .int (nI b)]) (rest := [.ref (ad 1)]) (wc := []) C0 (c_SC_place ha hb1) q_SC_59 i_SC_place ⟨Nat.le_of_ble_eq_true rfl, Nat.le_of_ble_eq_true rfl⟩ rfl (fun k q h => by cases h) hl.1 rfl (Nat.le_of_ble_eq_true rfl) d_SC_touched_6 ⟨Nat.zero_le _, Nat.zero_le _⟩ ?_
  refine sx_cVP (As := [.int (nI (64 * a + b))]) (rest := []) (wc := (wST G ad qc qb V F T L tc n CH BE cd rf)) (k0 := 0) C0 (c_ST_isTouched (show 64 * a + b < 256 by omega) hz) q_SC_82 i_ST_isTouched ⟨Nat.le_of_ble_eq_true rfl, Nat.le_of_ble_eq_true rfl⟩ rfl rfl rfl (sx_mid (wa := (wS4 G ad C1 C2 C3 dp)) (wc := (wST G ad qc qb V F T L tc n CH BE cd rf)) (wb := []) hP) hl.1 rfl (Nat.le_of_ble_eq_true rfl) d_SC_touched_9 ⟨Nat.zero_le _, Nat.zero_le _⟩ ?_
  exact sx_zretP C0 hr hz hlk d_SC_touched_12
theorem x_SC_touched {o1 p1 : Int32} (hfl : l.flags = flags0) (ho : p_out o1 p1) : sx_CtrX l y_SC_touched w_SC_touched (sx_rm 7 1 6 111) G [.ref (ad 0), .int o1, .int p1] (wSC G ad qc qb V F T L tc n CH BE cd rf C1 C2 C3 dp) E_IAE := by
  refine sx_CtrX.of (by decide +kernel) (Nat.le_of_ble_eq_true rfl) ?_
  intro p e s m below meth c9 ls hadm C0 he hlk hl hP hTS
  have C0 : sx_C p s m c9 b_SC_touched 3 sx_SC G := C0
  have hx := C0.1
  have hb := C0.2.1
  have hl : lv_has ls 3 [(0, .ref (ad 0)), (1, .int o1), (2, .int p1)] := hl
  refine lv_aload_n hx hb d_SC_touched_0 rfl (lv_at hl 0 rfl) ?_
  refine sx_get C0 hP 0 rfl rfl 0 (by decide) f_SC_10 rfl rfl d_SC_touched_1 ?_
  refine lv_iload_n hx hb d_SC_touched_4 rfl (lv_at hl 1 rfl) ?_
  refine lv_iload_n hx hb d_SC_touched_5 rfl (lv_at hl 2 rfl) ?_
  refine sx_cSX (As := [.int o1, .int p1]) (rest := [.ref (ad 1)]) (wc := []) C0 hTS ⟨Nat.le_refl _, fun _ _ => rfl⟩ (x_SC_place hfl ho) q_SC_59 i_SC_place ⟨Nat.le_of_ble_eq_true rfl, Nat.le_of_ble_eq_true rfl⟩ rfl (fun k q h => by cases h) hl.1 rfl (Nat.le_of_ble_eq_true rfl) d_SC_touched_6 ⟨Nat.le_of_ble_eq_true rfl, Nat.le_of_ble_eq_true rfl⟩ (fun x ce H1 h1 h2 h3 h4 h5 h6 => ?_)
  exact sx_TW.out he hlk h1 h2 h3 h4
theorem c_SC_count0 : sx_CtrP l y_SC_count w_SC_count 1 22 G [.ref (ad 0), .int (nI 0)] (wSC G ad qc qb V F T L tc n CH BE cd rf C1 C2 C3 dp) (.int (rf)) := by
  refine sx_CtrP.of (by decide +kernel) (Nat.le_of_ble_eq_true rfl) ?_
  intro p e s m below meth c9 ls C0 hr hlk hl hP
  have C0 : sx_C p s m c9 b_SC_count 2 sx_SC G := C0
  have hx := C0.1
  have hb := C0.2.1
  have hl : lv_has ls 2 [(0, .ref (ad 0)), (1, .int (nI 0))] := hl
  refine lv_iload_n hx hb d_SC_count_0 rfl (lv_at hl 1 rfl) ?_
  refine lv_if_lt (tgt := 9) hx hb d_SC_count_1 (by decide) (fun z => absurd z (nI_pos (by decide))) (fun _ => ?_)
  refine lv_iload_n hx hb d_SC_count_4 rfl (lv_at hl 1 rfl) ?_
  refine lv_iconst (v := nI 3) hx hb d_SC_count_5 (by decide +kernel) ?_
  refine lv_icmp_le (tgt := 17) hx hb d_SC_count_6 (by decide) (fun _ => ?_) (fun z => absurd (nI_le (by decide) (by decide)) z)
  refine lv_iload_n hx hb d_SC_count_17 rfl (lv_at hl 1 rfl) ?_
  refine lv_if_ne (tgt := 31) hx hb d_SC_count_18 (by decide) (fun z => absurd (nI_0) z) (fun _ => ?_)
  refine lv_aload_n hx hb d_SC_count_21 rfl (lv_at hl 0 rfl) ?_
  refine sx_get C0 hP 0 rfl rfl 0 (by decide) f_SC_10 rfl rfl d_SC_count_22 ?_
  refine sx_cVP (As := []) (rest := []) (wc := (wST G ad qc qb V F T L tc n CH BE cd rf)) (k0 := 0) C0 c_ST_refund q_SC_49 i_ST_refund ⟨Nat.le_of_ble_eq_true rfl, Nat.le_of_ble_eq_true rfl⟩ rfl rfl rfl (sx_mid (wa := (wS4 G ad C1 C2 C3 dp)) (wc := (wST G ad qc qb V F T L tc n CH BE cd rf)) (wb := []) hP) hl.1 rfl (Nat.le_of_ble_eq_true rfl) d_SC_count_25 ⟨Nat.zero_le _, Nat.zero_le _⟩ ?_
  refine lv_goto (tgt := 65) hx hb d_SC_count_28 (by decide) ?_
  exact sx_iretP C0 hr hlk d_SC_count_65
theorem c_SC_count1 : sx_CtrP l y_SC_count w_SC_count 1 22 G [.ref (ad 0), .int (nI 1)] (wSC G ad qc qb V F T L tc n CH BE cd rf C1 C2 C3 dp) (.int (nI tc)) := by
  refine sx_CtrP.of (by decide +kernel) (Nat.le_of_ble_eq_true rfl) ?_
  intro p e s m below meth c9 ls C0 hr hlk hl hP
  have C0 : sx_C p s m c9 b_SC_count 2 sx_SC G := C0
  have hx := C0.1
  have hb := C0.2.1
  have hl : lv_has ls 2 [(0, .ref (ad 0)), (1, .int (nI 1))] := hl
  refine lv_iload_n hx hb d_SC_count_0 rfl (lv_at hl 1 rfl) ?_
  refine lv_if_lt (tgt := 9) hx hb d_SC_count_1 (by decide) (fun z => absurd z (nI_pos (by decide))) (fun _ => ?_)
  refine lv_iload_n hx hb d_SC_count_4 rfl (lv_at hl 1 rfl) ?_
  refine lv_iconst (v := nI 3) hx hb d_SC_count_5 (by decide +kernel) ?_
  refine lv_icmp_le (tgt := 17) hx hb d_SC_count_6 (by decide) (fun _ => ?_) (fun z => absurd (nI_le (by decide) (by decide)) z)
  refine lv_iload_n hx hb d_SC_count_17 rfl (lv_at hl 1 rfl) ?_
  refine lv_if_ne (tgt := 31) hx hb d_SC_count_18 (by decide) (fun _ => ?_) (fun z => absurd z (nI_ne0 (by decide) (by decide)))
  refine lv_iload_n hx hb d_SC_count_31 rfl (lv_at hl 1 rfl) ?_
  refine lv_iconst (v := nI 1) hx hb d_SC_count_32 (by decide +kernel) ?_
  refine lv_icmp_ne (tgt := 46) hx hb d_SC_count_33 (by decide) (fun z => absurd (rfl) z) (fun _ => ?_)
  refine lv_aload_n hx hb d_SC_count_36 rfl (lv_at hl 0 rfl) ?_
  refine sx_get C0 hP 0 rfl rfl 0 (by decide) f_SC_10 rfl rfl d_SC_count_37 ?_
  refine sx_cVP (As := []) (rest := []) (wc := (wST G ad qc qb V F T L tc n CH BE cd rf)) (k0 := 0) C0 c_ST_touchedCount q_SC_46 i_ST_touchedCount ⟨Nat.le_of_ble_eq_true rfl, Nat.le_of_ble_eq_true rfl⟩ rfl rfl rfl (sx_mid (wa := (wS4 G ad C1 C2 C3 dp)) (wc := (wST G ad qc qb V F T L tc n CH BE cd rf)) (wb := []) hP) hl.1 rfl (Nat.le_of_ble_eq_true rfl) d_SC_count_40 ⟨Nat.zero_le _, Nat.zero_le _⟩ ?_
  refine lv_goto (tgt := 65) hx hb d_SC_count_43 (by decide) ?_
  exact sx_iretP C0 hr hlk d_SC_count_65
theorem c_SC_count2 : sx_CtrP l y_SC_count w_SC_count 1 22 G [.ref (ad 0), .int (nI 2)] (wSC G ad qc qb V F T L tc n CH BE cd rf C1 C2 C3 dp) (.int (nI dp)) := by
  refine sx_CtrP.of (by decide +kernel) (Nat.le_of_ble_eq_true rfl) ?_
  intro p e s m below meth c9 ls C0 hr hlk hl hP
  have C0 : sx_C p s m c9 b_SC_count 2 sx_SC G := C0
  have hx := C0.1
  have hb := C0.2.1
  have hl : lv_has ls 2 [(0, .ref (ad 0)), (1, .int (nI 2))] := hl
  refine lv_iload_n hx hb d_SC_count_0 rfl (lv_at hl 1 rfl) ?_
  refine lv_if_lt (tgt := 9) hx hb d_SC_count_1 (by decide) (fun z => absurd z (nI_pos (by decide))) (fun _ => ?_)
  refine lv_iload_n hx hb d_SC_count_4 rfl (lv_at hl 1 rfl) ?_
  refine lv_iconst (v := nI 3) hx hb d_SC_count_5 (by decide +kernel) ?_
  refine lv_icmp_le (tgt := 17) hx hb d_SC_count_6 (by decide) (fun _ => ?_) (fun z => absurd (nI_le (by decide) (by decide)) z)
  refine lv_iload_n hx hb d_SC_count_17 rfl (lv_at hl 1 rfl) ?_
  refine lv_if_ne (tgt := 31) hx hb d_SC_count_18 (by decide) (fun _ => ?_) (fun z => absurd z (nI_ne0 (by decide) (by decide)))
  refine lv_iload_n hx hb d_SC_count_31 rfl (lv_at hl 1 rfl) ?_
  refine lv_iconst (v := nI 1) hx hb d_SC_count_32 (by decide +kernel) ?_
  refine lv_icmp_ne (tgt := 46) hx hb d_SC_count_33 (by decide) (fun _ => ?_) (fun z => absurd z ((by decide +kernel : ¬ nI 2 = nI 1)))
  refine lv_iload_n hx hb d_SC_count_46 rfl (lv_at hl 1 rfl) ?_
  refine lv_iconst (v := nI 2) hx hb d_SC_count_47 (by decide +kernel) ?_
  refine lv_icmp_ne (tgt := 58) hx hb d_SC_count_48 (by decide) (fun z => absurd (rfl) z) (fun _ => ?_)
  refine lv_aload_n hx hb d_SC_count_51 rfl (lv_at hl 0 rfl) ?_
  refine sx_get C0 hP 0 rfl rfl 4 (by decide) f_SC_32 rfl rfl d_SC_count_52 ?_
  refine lv_goto (tgt := 65) hx hb d_SC_count_55 (by decide) ?_
  exact sx_iretP C0 hr hlk d_SC_count_65
theorem c_SC_count3 : sx_CtrP l y_SC_count w_SC_count 1 22 G [.ref (ad 0), .int (nI 3)] (wSC G ad qc qb V F T L tc n CH BE cd rf C1 C2 C3 dp) (.int (nI (p_cnL V 256))) := by
  refine sx_CtrP.of (by decide +kernel) (Nat.le_of_ble_eq_true rfl) ?_
  intro p e s m below meth c9 ls C0 hr hlk hl hP
  have C0 : sx_C p s m c9 b_SC_count 2 sx_SC G := C0
  have hx := C0.1
  have hb := C0.2.1
  have hl : lv_has ls 2 [(0, .ref (ad 0)), (1, .int (nI 3))] := hl
  refine lv_iload_n hx hb d_SC_count_0 rfl (lv_at hl 1 rfl) ?_
  refine lv_if_lt (tgt := 9) hx hb d_SC_count_1 (by decide) (fun z => absurd z (nI_pos (by decide))) (fun _ => ?_)
  refine lv_iload_n hx hb d_SC_count_4 rfl (lv_at hl 1 rfl) ?_
  refine lv_iconst (v := nI 3) hx hb d_SC_count_5 (by decide +kernel) ?_
  refine lv_icmp_le (tgt := 17) hx hb d_SC_count_6 (by decide) (fun _ => ?_) (fun z => absurd (nI_le (by decide) (by decide)) z)
  refine lv_iload_n hx hb d_SC_count_17 rfl (lv_at hl 1 rfl) ?_
  refine lv_if_ne (tgt := 31) hx hb d_SC_count_18 (by decide) (fun _ => ?_) (fun z => absurd z (nI_ne0 (by decide) (by decide)))
  refine lv_iload_n hx hb d_SC_count_31 rfl (lv_at hl 1 rfl) ?_
  refine lv_iconst (v := nI 1) hx hb d_SC_count_32 (by decide +kernel) ?_
  refine lv_icmp_ne (tgt := 46) hx hb d_SC_count_33 (by decide) (fun _ => ?_) (fun z => absurd z ((by decide +kernel : ¬ nI 3 = nI 1)))
  refine lv_iload_n hx hb d_SC_count_46 rfl (lv_at hl 1 rfl) ?_
  refine lv_iconst (v := nI 2) hx hb d_SC_count_47 (by decide +kernel) ?_
  refine lv_icmp_ne (tgt := 58) hx hb d_SC_count_48 (by decide) (fun _ => ?_) (fun z => absurd z ((by decide +kernel : ¬ nI 3 = nI 2)))
  refine lv_aload_n hx hb d_SC_count_58 rfl (lv_at hl 0 rfl) ?_
  refine sx_get C0 hP 0 rfl rfl 0 (by decide) f_SC_10 rfl rfl d_SC_count_59 ?_
  refine sx_cVP (As := []) (rest := []) (wc := (wST G ad qc qb V F T L tc n CH BE cd rf)) (k0 := 0) C0 c_ST_some q_SC_36 i_ST_some ⟨Nat.le_of_ble_eq_true rfl, Nat.le_of_ble_eq_true rfl⟩ rfl rfl rfl (sx_mid (wa := (wS4 G ad C1 C2 C3 dp)) (wc := (wST G ad qc qb V F T L tc n CH BE cd rf)) (wb := []) hP) hl.1 rfl (Nat.le_of_ble_eq_true rfl) d_SC_count_62 ⟨Nat.zero_le _, Nat.zero_le _⟩ ?_
  exact sx_iretP C0 hr hlk d_SC_count_65
theorem x_SC_count {w1 : Int32} (hfl : l.flags = flags0) (ho : w1 < 0 ∨ 3 < w1) : sx_CtrX l y_SC_count w_SC_count (sx_rm 6 1 6 90) G [.ref (ad 0), .int w1] (wSC G ad qc qb V F T L tc n CH BE cd rf C1 C2 C3 dp) E_IAE := by
  refine sx_CtrX.of (by decide +kernel) (Nat.le_of_ble_eq_true rfl) ?_
  intro p e s m below meth c9 ls hadm C0 he hlk hl hP hTS
  have C0 : sx_C p s m c9 b_SC_count 2 sx_SC G := C0
  have hx := C0.1
  have hb := C0.2.1
  have hl : lv_has ls 2 [(0, .ref (ad 0)), (1, .int w1)] := hl
  have thr : W p l e (sx_rm 6 1 6 90) s m ([.ref (ad 0), .int w1] : List Value).toArray below meth c9 s.heap [] 0 0 (sx_XQ below E_IAE ([.ref (ad 0), .int w1] : List Value).toArray s 1 6) (F0 m 9 ls []) := sx_throw C0 (Launch.traces_off hfl hadm) hTS (Nat.le_refl _) sx_at_IAE (by decide +kernel) sx_cl_IAE sx_ins_IAE sx_ini_IAE he hlk hl.1 (Nat.le_of_ble_eq_true rfl) ⟨Nat.le_of_ble_eq_true rfl, Nat.le_of_ble_eq_true rfl⟩ ⟨Nat.le_of_ble_eq_true rfl, Nat.le_of_ble_eq_true rfl⟩ d_SC_count_9 d_SC_count_12 d_SC_count_13 d_SC_count_16
  refine lv_iload_n hx hb d_SC_count_0 rfl (lv_at hl 1 rfl) ?_
  refine lv_if_lt (tgt := 9) hx hb d_SC_count_1 (by decide) (fun h1 => ?_) (fun h1 => ?_)
  · exact thr
  · skip
    refine lv_iload_n hx hb d_SC_count_4 rfl (lv_at hl 1 rfl) ?_
    refine lv_iconst (v := 3) hx hb d_SC_count_5 (by decide) ?_
    refine lv_icmp_le (tgt := 17) hx hb d_SC_count_6 (by decide) (fun h2 => ?_) (fun h2 => ?_)
    · exact absurd h2 (by
        rcases ho with h | h
        · exact absurd h h1
        · exact Int32.not_le.mpr h)
    · exact thr
set_option maxRecDepth 20000 in
theorem c_SC_store {a b : Nat} {v : Int64} {g : Int32} (ha : a < 4) (hb1 : b < 64) (htc : T (64 * a + b) = 0 → tc < 256) (hcn : cd ≤ n) (hn0 : 0 < n) (hn : n ≤ 4096) (hg1 : ¬ g ≤ 2300) (hg2 : (p_cost (T (64 * a + b)) (F (64 * a + b)) (V (64 * a + b)) v) ≤ g) : sx_Ctr l y_SC_store w_SC_store (sx_rm 2 2 (4 * n) 49) G [.ref (ad 0), .int (nI a), .int (nI b), .long v, .int g] (wSC G ad qc qb V F T L tc n CH BE cd rf C1 C2 C3 dp) (fun r A H => ∃ (qc' qb' n' cd' tc' : Nat) (V' : Nat → Int64) (T' L' CH' : Nat → Int32) (BE' : Nat → Int64) (rf' : Int32), r = some (.int (p_cost (T (64 * a + b)) (F (64 * a + b)) (V (64 * a + b)) v)) ∧ p_tch T L tc (64 * a + b) T' L' tc' ∧ p_sto V F n CH BE cd rf (64 * a + b) v V' n' CH' BE' cd' rf' ∧ va_P G.1 sx_cls (wSC G ad qc' qb' V' F T' L' tc' n' CH' BE' cd' rf' C1 C2 C3 dp) H ∧ va_D A (wSC G ad qc' qb' V' F T' L' tc' n' CH' BE' cd' rf' C1 C2 C3 dp)) := by
  refine sx_Ctr.of (by decide +kernel) (Nat.le_of_ble_eq_true rfl) ?_
  intro p e s m below meth c9 ls A C0 hr hlk hnm hl hP hD hA hS
  have C0 : sx_C p s m c9 b_SC_store 8 sx_SC G := C0
  have hx := C0.1
  have hb := C0.2.1
  have hl : lv_has ls 8 [(0, .ref (ad 0)), (1, .int (nI a)), (2, .int (nI b)), (3, .long v), (5, .int g)] := hl
  have tail : ∀ (T' L' : Nat → Int32) (tc' : Nat) (ls : Array Slot) (H : Heap) (locs : List Loc), lv_has ls 8 [(7, .int (p_cost (T (64 * a + b)) (F (64 * a + b)) (V (64 * a + b)) v)), (6, .int (nI (64 * a + b))), (0, .ref (ad 0)), (1, .int (nI a)), (2, .int (nI b)), (3, .long v), (5, .int g)] → p_tch T L tc (64 * a + b) T' L' tc' → va_P G.1 sx_cls (wSC G ad qc qb V F T' L' tc' n CH BE cd rf C1 C2 C3 dp) H → va_D A (wSC G ad qc qb V F T' L' tc' n CH BE cd rf C1 C2 C3 dp) → va_S A s.heap H locs → W p l e (sx_rm 2 2 (4 * n) 49) s m ([.ref (ad 0), .int (nI a), .int (nI b), .long v, .int g] : List Value).toArray below meth c9 H locs 0 0 (MQ below (sx_Q (fun r A H => ∃ (qc' qb' n' cd' tc' : Nat) (V' : Nat → Int64) (T' L' CH' : Nat → Int32) (BE' : Nat → Int64) (rf' : Int32), r = some (.int (p_cost (T (64 * a + b)) (F (64 * a + b)) (V (64 * a + b)) v)) ∧ p_tch T L tc (64 * a + b) T' L' tc' ∧ p_sto V F n CH BE cd rf (64 * a + b) v V' n' CH' BE' cd' rf' ∧ va_P G.1 sx_cls (wSC G ad qc' qb' V' F T' L' tc' n' CH' BE' cd' rf' C1 C2 C3 dp) H ∧ va_D A (wSC G ad qc' qb' V' F T' L' tc' n' CH' BE' cd' rf' C1 C2 C3 dp)) A) ([.ref (ad 0), .int (nI a), .int (nI b), .long v, .int g] : List Value).toArray s 2 (4 * n) A) (F0 m 52 ls []) := by
    intro T' L' tc' ls H locs hl htch hP hD hS
    refine lv_aload_n hx hb d_SC_store_52 rfl (lv_at hl 2 rfl) ?_
    refine sx_get C0 hP 0 rfl rfl 0 (by decide) f_SC_10 rfl rfl d_SC_store_53 ?_
    refine lv_iload hx hb d_SC_store_56 (lv_at hl 1 rfl) ?_
    refine lv_lload_n hx hb d_SC_store_58 rfl (lv_at hl 5 rfl) ?_
    by_cases hv : v = V (64 * a + b)
    · skip
      refine sx_cV (As := [.int (nI (64 * a + b)), .long v]) (rest := []) (wa := (wS4 G ad C1 C2 C3 dp)) (wb := []) (k0 := 0) C0 (c_ST_store1 (show 64 * a + b < 256 by omega) hv) q_SC_71 i_ST_store ⟨Nat.le_of_ble_eq_true rfl, Nat.le_of_ble_eq_true rfl⟩ rfl rfl rfl hP hD hS hA hl.1 rfl (Nat.zero_le _) d_SC_store_59 ⟨Nat.zero_le _, Nat.zero_le _⟩ (fun r H locs hq hj hS => ?_)
      obtain ⟨rfl, hP1, hD1⟩ := hq
      obtain ⟨hP, hD⟩ := hj _ hP1 hD1
      have hP : va_P G.1 sx_cls ([(ad 0, .inr (0, [.ref (ad 1), .ref (ad 2), .ref (ad 3), .ref (ad 4), .int (nI dp)])), (ad 2, .inl (G.2 0, 30, .inl C1)), (ad 3, .inl (G.2 0, 30, .inl C2)), (ad 4, .inl (G.2 0, 30, .inl C3)), (ad 1, .inr (1, [.ref (ad 5), .ref (ad 6), .ref (ad 7), .ref (ad 8), .int (nI tc'), .ref qc, .ref qb, .int (nI cd), .int rf])), (ad 5, .inl (G.2 1, 256, .inr (.inl V))), (ad 6, .inl (G.2 1, 256, .inr (.inl F))), (ad 7, .inl (G.2 2, 256, .inl T')), (ad 8, .inl (G.2 0, 256, .inl L')), (qc, .inl (G.2 0, n, .inl CH)), (qb, .inl (G.2 1, n, .inr (.inl BE)))]) H := hP
      have hD : va_D A ([(ad 0, .inr (0, [.ref (ad 1), .ref (ad 2), .ref (ad 3), .ref (ad 4), .int (nI dp)])), (ad 2, .inl (G.2 0, 30, .inl C1)), (ad 3, .inl (G.2 0, 30, .inl C2)), (ad 4, .inl (G.2 0, 30, .inl C3)), (ad 1, .inr (1, [.ref (ad 5), .ref (ad 6), .ref (ad 7), .ref (ad 8), .int (nI tc'), .ref qc, .ref qb, .int (nI cd), .int rf])), (ad 5, .inl (G.2 1, 256, .inr (.inl V))), (ad 6, .inl (G.2 1, 256, .inr (.inl F))), (ad 7, .inl (G.2 2, 256, .inl T')), (ad 8, .inl (G.2 0, 256, .inl L')), (qc, .inl (G.2 0, n, .inl CH)), (qb, .inl (G.2 1, n, .inr (.inl BE)))]) := hD
      refine W.widen (k := 2) (n := 4 * n) (Nat.zero_le _) (Nat.zero_le _) ?_
      refine lv_iload hx hb d_SC_store_62 (lv_at hl 0 rfl) ?_
      exact sx_iret C0 hr hlk hS ⟨_, _, _, _, _, _, _, _, _, _, _, rfl, htch, Or.inl ⟨hv, rfl, rfl, rfl, rfl, rfl, rfl⟩, hP, hD⟩ d_SC_store_64
    · skip
      refine sx_cV (As := [.int (nI (64 * a + b)), .long v]) (rest := []) (wa := (wS4 G ad C1 C2 C3 dp)) (wb := []) (k0 := 0) C0 (c_ST_store0 (show 64 * a + b < 256 by omega) hv hcn hn0 hn) q_SC_71 i_ST_store ⟨Nat.le_of_ble_eq_true rfl, Nat.le_of_ble_eq_true rfl⟩ rfl rfl rfl hP hD hS hA hl.1 rfl (Nat.zero_le _) d_SC_store_59 ⟨(show 0 + 2 ≤ 2 by omega), (show 0 + 4 * n ≤ 4 * n by omega)⟩ (fun r H locs hq hj hS => ?_)
      obtain ⟨qc', qb', n', CH', BE', rfl, hn1, hc1, hb2, hP1, hD1⟩ := hq
      obtain ⟨hP, hD⟩ := hj _ hP1 hD1
      refine W.widen (k := 2) (n := 4 * n) (show 0 + 2 ≤ 2 by omega) (show 0 + 4 * n ≤ 4 * n by omega) ?_
      refine lv_iload hx hb d_SC_store_62 (lv_at hl 0 rfl) ?_
      exact sx_iret C0 hr hlk hS ⟨qc', qb', n', _, _, _, _, _, _, _, _, rfl, htch, Or.inr ⟨hv, rfl, hn1, ⟨CH', hc1, rfl⟩, ⟨BE', hb2, rfl⟩, rfl, rfl⟩, hP, hD⟩ d_SC_store_64
  refine lv_iload_n hx hb d_SC_store_0 rfl (lv_at hl 1 rfl) ?_
  refine lv_iload_n hx hb d_SC_store_1 rfl (lv_at hl 2 rfl) ?_
  refine sx_cSP (As := [.int (nI a), .int (nI b)]) (rest := []) (wc := []) C0 (c_SC_place ha hb1) q_SC_59 i_SC_place ⟨Nat.le_of_ble_eq_true rfl, Nat.le_of_ble_eq_true rfl⟩ rfl (fun k q h => by cases h) hl.1 rfl (Nat.le_of_ble_eq_true rfl) d_SC_store_2 ⟨Nat.zero_le _, Nat.zero_le _⟩ ?_
  refine lv_istore hx hb d_SC_store_5 hl (by decide) rfl (fun ls hl => ?_)
  have hl : lv_has ls 8 [(6, .int (nI (64 * a + b))), (0, .ref (ad 0)), (1, .int (nI a)), (2, .int (nI b)), (3, .long v), (5, .int g)] := hl
  refine lv_aload_n hx hb d_SC_store_7 rfl (lv_at hl 1 rfl) ?_
  refine sx_get C0 hP 0 rfl rfl 0 (by decide) f_SC_10 rfl rfl d_SC_store_8 ?_
  refine lv_iload hx hb d_SC_store_11 (lv_at hl 0 rfl) ?_
  refine lv_lload_n hx hb d_SC_store_13 rfl (lv_at hl 4 rfl) ?_
  refine sx_cVP (As := [.int (nI (64 * a + b)), .long v]) (rest := []) (wc := (wST G ad qc qb V F T L tc n CH BE cd rf)) (k0 := 0) C0 (c_ST_cost (show 64 * a + b < 256 by omega)) q_SC_67 i_ST_cost ⟨Nat.le_of_ble_eq_true rfl, Nat.le_of_ble_eq_true rfl⟩ rfl rfl rfl (sx_mid (wa := (wS4 G ad C1 C2 C3 dp)) (wc := (wST G ad qc qb V F T L tc n CH BE cd rf)) (wb := []) hP) hl.1 rfl (Nat.le_of_ble_eq_true rfl) d_SC_store_14 ⟨Nat.zero_le _, Nat.zero_le _⟩ ?_
  refine lv_istore hx hb d_SC_store_17 hl (by decide) rfl (fun ls hl => ?_)
  have hl : lv_has ls 8 [(7, .int (p_cost (T (64 * a + b)) (F (64 * a + b)) (V (64 * a + b)) v)), (6, .int (nI (64 * a + b))), (0, .ref (ad 0)), (1, .int (nI a)), (2, .int (nI b)), (3, .long v), (5, .int g)] := hl
  refine lv_iload hx hb d_SC_store_19 (lv_at hl 6 rfl) ?_
  refine lv_sipush (v := 2300) hx hb d_SC_store_21 (by decide) ?_
  refine lv_icmp_le (tgt := 34) hx hb d_SC_store_24 (by decide) (fun z => absurd z (hg1)) (fun _ => ?_)
  refine lv_iload hx hb d_SC_store_27 (lv_at hl 0 rfl) ?_
  refine lv_iload hx hb d_SC_store_29 (lv_at hl 6 rfl) ?_
  refine lv_icmp_le (tgt := 42) hx hb d_SC_store_31 (by decide) (fun _ => ?_) (fun z => absurd (hg2) z)
  refine lv_aload_n hx hb d_SC_store_42 rfl (lv_at hl 2 rfl) ?_
  refine sx_get C0 hP 0 rfl rfl 0 (by decide) f_SC_10 rfl rfl d_SC_store_43 ?_
  refine lv_iload hx hb d_SC_store_46 (lv_at hl 1 rfl) ?_
  by_cases hT : T (64 * a + b) = 0
  · skip
    refine sx_cV (As := [.int (nI (64 * a + b))]) (rest := []) (wa := (wS4 G ad C1 C2 C3 dp)) (wb := []) (k0 := 0) C0 (c_ST_touch0 (show 64 * a + b < 256 by omega) (htc hT) hT) q_SC_63 i_ST_touch ⟨Nat.le_of_ble_eq_true rfl, Nat.le_of_ble_eq_true rfl⟩ rfl rfl rfl hP hD hS hA hl.1 rfl (Nat.zero_le _) d_SC_store_48 ⟨Nat.zero_le _, Nat.zero_le _⟩ (fun r H locs hq hj hS => ?_)
    obtain ⟨rfl, hP1, hD1⟩ := hq
    obtain ⟨hP, hD⟩ := hj _ hP1 hD1
    have hP : va_P G.1 sx_cls ([(ad 0, .inr (0, [.ref (ad 1), .ref (ad 2), .ref (ad 3), .ref (ad 4), .int (nI dp)])), (ad 2, .inl (G.2 0, 30, .inl C1)), (ad 3, .inl (G.2 0, 30, .inl C2)), (ad 4, .inl (G.2 0, 30, .inl C3)), (ad 1, .inr (1, [.ref (ad 5), .ref (ad 6), .ref (ad 7), .ref (ad 8), .int (nI (tc + 1)), .ref qc, .ref qb, .int (nI cd), .int rf])), (ad 5, .inl (G.2 1, 256, .inr (.inl V))), (ad 6, .inl (G.2 1, 256, .inr (.inl F))), (ad 7, .inl (G.2 2, 256, .inl (upd T (64 * a + b) 1))), (ad 8, .inl (G.2 0, 256, .inl (upd L tc (nI (64 * a + b))))), (qc, .inl (G.2 0, n, .inl CH)), (qb, .inl (G.2 1, n, .inr (.inl BE)))]) H := hP
    have hD : va_D A ([(ad 0, .inr (0, [.ref (ad 1), .ref (ad 2), .ref (ad 3), .ref (ad 4), .int (nI dp)])), (ad 2, .inl (G.2 0, 30, .inl C1)), (ad 3, .inl (G.2 0, 30, .inl C2)), (ad 4, .inl (G.2 0, 30, .inl C3)), (ad 1, .inr (1, [.ref (ad 5), .ref (ad 6), .ref (ad 7), .ref (ad 8), .int (nI (tc + 1)), .ref qc, .ref qb, .int (nI cd), .int rf])), (ad 5, .inl (G.2 1, 256, .inr (.inl V))), (ad 6, .inl (G.2 1, 256, .inr (.inl F))), (ad 7, .inl (G.2 2, 256, .inl (upd T (64 * a + b) 1))), (ad 8, .inl (G.2 0, 256, .inl (upd L tc (nI (64 * a + b))))), (qc, .inl (G.2 0, n, .inl CH)), (qb, .inl (G.2 1, n, .inr (.inl BE)))]) := hD
    refine lv_pop hx hb d_SC_store_51 rfl ?_
    exact tail _ _ _ ls H locs hl (Or.inr ⟨hT, rfl, rfl, rfl⟩) hP hD hS
  · skip
    refine sx_cVP (As := [.int (nI (64 * a + b))]) (rest := []) (wc := (wST G ad qc qb V F T L tc n CH BE cd rf)) (k0 := 0) C0 (c_ST_touch1 (show 64 * a + b < 256 by omega) hT) q_SC_63 i_ST_touch ⟨Nat.le_of_ble_eq_true rfl, Nat.le_of_ble_eq_true rfl⟩ rfl rfl rfl (sx_mid (wa := (wS4 G ad C1 C2 C3 dp)) (wc := (wST G ad qc qb V F T L tc n CH BE cd rf)) (wb := []) hP) hl.1 rfl (Nat.le_of_ble_eq_true rfl) d_SC_store_48 ⟨Nat.zero_le _, Nat.zero_le _⟩ ?_
    refine lv_pop hx hb d_SC_store_51 rfl ?_
    exact tail T L tc ls _ _ hl (Or.inl ⟨hT, rfl, rfl, rfl⟩) hP hD hS
theorem x_SC_store1 {o1 p1 g : Int32} {v : Int64} (hfl : l.flags = flags0) (ho : p_out o1 p1) : sx_CtrX l y_SC_store w_SC_store (sx_rm 7 1 6 111) G [.ref (ad 0), .int o1, .int p1, .long v, .int g] (wSC G ad qc qb V F T L tc n CH BE cd rf C1 C2 C3 dp) E_IAE := by
  refine sx_CtrX.of (by decide +kernel) (Nat.le_of_ble_eq_true rfl) ?_
  intro p e s m below meth c9 ls hadm C0 he hlk hl hP hTS
  have C0 : sx_C p s m c9 b_SC_store 8 sx_SC G := C0
  have hx := C0.1
  have hb := C0.2.1
  have hl : lv_has ls 8 [(0, .ref (ad 0)), (1, .int o1), (2, .int p1), (3, .long v), (5, .int g)] := hl
  refine lv_iload_n hx hb d_SC_store_0 rfl (lv_at hl 1 rfl) ?_
  refine lv_iload_n hx hb d_SC_store_1 rfl (lv_at hl 2 rfl) ?_
  refine sx_cSX (As := [.int o1, .int p1]) (rest := []) (wc := []) C0 hTS ⟨Nat.le_refl _, fun _ _ => rfl⟩ (x_SC_place hfl ho) q_SC_59 i_SC_place ⟨Nat.le_of_ble_eq_true rfl, Nat.le_of_ble_eq_true rfl⟩ rfl (fun k q h => by cases h) hl.1 rfl (Nat.le_of_ble_eq_true rfl) d_SC_store_2 ⟨Nat.le_of_ble_eq_true rfl, Nat.le_of_ble_eq_true rfl⟩ (fun x ce H1 h1 h2 h3 h4 h5 h6 => ?_)
  exact sx_TW.out he hlk h1 h2 h3 h4
theorem x_SC_store2 {a b : Nat} {v : Int64} {g : Int32} (hfl : l.flags = flags0) (ha : a < 4) (hb1 : b < 64) (hg : g ≤ 2300 ∨ ¬ (p_cost (T (64 * a + b)) (F (64 * a + b)) (V (64 * a + b)) v) ≤ g) : sx_CtrX l y_SC_store w_SC_store (sx_rm 6 1 6 90) G [.ref (ad 0), .int (nI a), .int (nI b), .long v, .int g] (wSC G ad qc qb V F T L tc n CH BE cd rf C1 C2 C3 dp) E_ISE := by
  refine sx_CtrX.of (by decide +kernel) (Nat.le_of_ble_eq_true rfl) ?_
  intro p e s m below meth c9 ls hadm C0 he hlk hl hP hTS
  have C0 : sx_C p s m c9 b_SC_store 8 sx_SC G := C0
  have hx := C0.1
  have hb := C0.2.1
  have hl : lv_has ls 8 [(0, .ref (ad 0)), (1, .int (nI a)), (2, .int (nI b)), (3, .long v), (5, .int g)] := hl
  refine lv_iload_n hx hb d_SC_store_0 rfl (lv_at hl 1 rfl) ?_
  refine lv_iload_n hx hb d_SC_store_1 rfl (lv_at hl 2 rfl) ?_
  refine sx_cSP (As := [.int (nI a), .int (nI b)]) (rest := []) (wc := []) C0 (c_SC_place ha hb1) q_SC_59 i_SC_place ⟨Nat.le_of_ble_eq_true rfl, Nat.le_of_ble_eq_true rfl⟩ rfl (fun k q h => by cases h) hl.1 rfl (Nat.le_of_ble_eq_true rfl) d_SC_store_2 ⟨Nat.zero_le _, Nat.zero_le _⟩ ?_
  refine lv_istore hx hb d_SC_store_5 hl (by decide) rfl (fun ls hl => ?_)
  have hl : lv_has ls 8 [(6, .int (nI (64 * a + b))), (0, .ref (ad 0)), (1, .int (nI a)), (2, .int (nI b)), (3, .long v), (5, .int g)] := hl
  refine lv_aload_n hx hb d_SC_store_7 rfl (lv_at hl 1 rfl) ?_
  refine sx_get C0 hP 0 rfl rfl 0 (by decide) f_SC_10 rfl rfl d_SC_store_8 ?_
  refine lv_iload hx hb d_SC_store_11 (lv_at hl 0 rfl) ?_
  refine lv_lload_n hx hb d_SC_store_13 rfl (lv_at hl 4 rfl) ?_
  refine sx_cVP (As := [.int (nI (64 * a + b)), .long v]) (rest := []) (wc := (wST G ad qc qb V F T L tc n CH BE cd rf)) (k0 := 0) C0 (c_ST_cost (show 64 * a + b < 256 by omega)) q_SC_67 i_ST_cost ⟨Nat.le_of_ble_eq_true rfl, Nat.le_of_ble_eq_true rfl⟩ rfl rfl rfl (sx_mid (wa := (wS4 G ad C1 C2 C3 dp)) (wc := (wST G ad qc qb V F T L tc n CH BE cd rf)) (wb := []) hP) hl.1 rfl (Nat.le_of_ble_eq_true rfl) d_SC_store_14 ⟨Nat.zero_le _, Nat.zero_le _⟩ ?_
  refine lv_istore hx hb d_SC_store_17 hl (by decide) rfl (fun ls hl => ?_)
  have hl : lv_has ls 8 [(7, .int (p_cost (T (64 * a + b)) (F (64 * a + b)) (V (64 * a + b)) v)), (6, .int (nI (64 * a + b))), (0, .ref (ad 0)), (1, .int (nI a)), (2, .int (nI b)), (3, .long v), (5, .int g)] := hl
  have thr : W p l e (sx_rm 6 1 6 90) s m ([.ref (ad 0), .int (nI a), .int (nI b), .long v, .int g] : List Value).toArray below meth c9 s.heap [] 0 0 (sx_XQ below E_ISE ([.ref (ad 0), .int (nI a), .int (nI b), .long v, .int g] : List Value).toArray s 1 6) (F0 m 34 ls []) := sx_throw C0 (Launch.traces_off hfl hadm) hTS (Nat.le_refl _) sx_at_ISE (by decide +kernel) sx_cl_ISE sx_ins_ISE sx_ini_ISE he hlk hl.1 (Nat.le_of_ble_eq_true rfl) ⟨Nat.le_of_ble_eq_true rfl, Nat.le_of_ble_eq_true rfl⟩ ⟨Nat.le_of_ble_eq_true rfl, Nat.le_of_ble_eq_true rfl⟩ d_SC_store_34 d_SC_store_37 d_SC_store_38 d_SC_store_41
  refine lv_iload hx hb d_SC_store_19 (lv_at hl 6 rfl) ?_
  refine lv_sipush (v := 2300) hx hb d_SC_store_21 (by decide) ?_
  refine lv_icmp_le (tgt := 34) hx hb d_SC_store_24 (by decide) (fun h1 => ?_) (fun h1 => ?_)
  · exact thr
  · skip
    refine lv_iload hx hb d_SC_store_27 (lv_at hl 0 rfl) ?_
    refine lv_iload hx hb d_SC_store_29 (lv_at hl 6 rfl) ?_
    refine lv_icmp_le (tgt := 42) hx hb d_SC_store_31 (by decide) (fun h2 => ?_) (fun h2 => ?_)
    · exact absurd h2 (hg.elim (fun z => absurd z h1) id)
    · exact thr
end SC2
end
section
/-! StorageCostsModel: what needs no kept row -/
section SM1
variable {l : Launch} {G : sx_G} {md : Nat → Nat} {fl : Int32} {V F : Nat → Int64} {T : Nat → Int32} {rf : Int32} {dp : Nat}
theorem c_MD_thrown : sx_CtrP l y_MD_thrown w_MD_thrown 0 0 G [.ref (md 0)] (wM4 G md fl V F T rf dp) (.int fl) := by
  refine sx_CtrP.of (by decide +kernel) (Nat.le_of_ble_eq_true rfl) ?_
  intro p e s m below meth c9 ls C0 hr hlk hl hP
  have C0 : sx_C p s m c9 b_MD_thrown 1 sx_MD G := C0
  have hx := C0.1
  have hb := C0.2.1
  have hl : lv_has ls 1 [(0, .ref (md 0))] := hl
  refine lv_aload_n hx hb d_MD_thrown_0 rfl (lv_at hl 0 rfl) ?_
  refine sx_get C0 hP 0 rfl rfl 0 (by decide) f_MD_34 rfl rfl d_MD_thrown_1 ?_
  exact sx_iretP C0 hr hlk d_MD_thrown_4
theorem c_MD_fail {g : Int32} : sx_Ctr l y_MD_fail w_MD_fail (sx_rm 0 0 0 0) G [.ref (md 0), .int g] (wM4 G md fl V F T rf dp) (sx_is G (some (.int 0)) (wM4 G md g V F T rf dp)) := by
  refine sx_Ctr.of (by decide +kernel) (Nat.le_of_ble_eq_true rfl) ?_
  intro p e s m below meth c9 ls A C0 hr hlk hnm hl hP hD hA hS
  have C0 : sx_C p s m c9 b_MD_fail 2 sx_MD G := C0
  have hx := C0.1
  have hb := C0.2.1
  have hl : lv_has ls 2 [(0, .ref (md 0)), (1, .int g)] := hl
  refine lv_aload_n hx hb d_MD_fail_0 rfl (lv_at hl 0 rfl) ?_
  refine lv_iload_n hx hb d_MD_fail_1 rfl (lv_at hl 1 rfl) ?_
  refine sx_put (ty := .int) C0 hP hD hS 0 rfl rfl 0 (by decide) f_MD_34 rfl rfl (by decide +kernel) rfl rfl (Nat.le_of_ble_eq_true rfl) d_MD_fail_2 (fun H locs hP hD hS => ?_)
  have hP : va_P G.1 sx_cls ([(md 0, .inr (2, [.int g, .ref (md 1), .ref (md 2), .ref (md 3), .ref (md 4), .ref (md 5), .ref (md 6), .int rf, .int (nI dp)])), (md 4, .inl (G.2 1, 256, .inr (.inl V))), (md 5, .inl (G.2 1, 256, .inr (.inl F))), (md 6, .inl (G.2 2, 256, .inl T))]) H := hP
  have hD : va_D A ([(md 0, .inr (2, [.int g, .ref (md 1), .ref (md 2), .ref (md 3), .ref (md 4), .ref (md 5), .ref (md 6), .int rf, .int (nI dp)])), (md 4, .inl (G.2 1, 256, .inr (.inl V))), (md 5, .inl (G.2 1, 256, .inr (.inl F))), (md 6, .inl (G.2 2, 256, .inl T))]) := hD
  refine lv_iconst (v := 0) hx hb d_MD_fail_5 (by decide) ?_
  exact sx_iret C0 hr hlk hS ⟨rfl, hP, hD⟩ d_MD_fail_6
theorem c_MD_filled : sx_CtrP l y_MD_filled w_MD_filled 0 0 G [.ref (md 0)] (wM4 G md fl V F T rf dp) (.int (nI (p_cnL V 256))) := by
  refine sx_CtrP.of (by decide +kernel) (Nat.le_of_ble_eq_true rfl) ?_
  intro p e s m below meth c9 ls C0 hr hlk hl hP
  have C0 : sx_C p s m c9 b_MD_filled 3 sx_MD G := C0
  have hx := C0.1
  have hb := C0.2.1
  have hl : lv_has ls 3 [(0, .ref (md 0))] := hl
  have loop : ∀ (k i : Nat) (ls : Array Slot), i + k = 256 → lv_has ls 3 [(2, .int (nI i)), (1, .int (nI (p_cnL V i))), (0, .ref (md 0))] → W p l e (sx_rm 0 0 0 0) s m ([.ref (md 0)] : List Value).toArray below meth c9 s.heap [] 0 0 (MQ below (sx_QP (.int (nI (p_cnL V 256)))) ([.ref (md 0)] : List Value).toArray s 0 0 (fun _ => False)) (F0 m 4 ls []) := by
    intro k
    induction k with
    | zero =>
      intro i ls hi hl
      have e1 : i = 256 := hi
      subst e1
      refine lv_iload_n hx hb d_MD_filled_4 rfl (lv_at hl 0 rfl) ?_
      refine lv_sipush (v := nI 256) hx hb d_MD_filled_5 (by decide +kernel) ?_
      refine lv_icmp_ge (tgt := 36) hx hb d_MD_filled_8 (by decide) (fun _ => ?_) (fun z => absurd (Int32.le_refl _) z)
      refine lv_iload_n hx hb d_MD_filled_36 rfl (lv_at hl 1 rfl) ?_
      exact sx_iretP C0 hr hlk d_MD_filled_37
    | succ k ih =>
      intro i ls hi hl
      refine lv_iload_n hx hb d_MD_filled_4 rfl (lv_at hl 0 rfl) ?_
      refine lv_sipush (v := nI 256) hx hb d_MD_filled_5 (by decide +kernel) ?_
      refine lv_icmp_ge (tgt := 36) hx hb d_MD_filled_8 (by decide) (fun z => absurd z (nI_ge (show i < 256 by omega) (by decide))) (fun _ => ?_)
      refine lv_iload_n hx hb d_MD_filled_11 rfl (lv_at hl 1 rfl) ?_
      refine lv_aload_n hx hb d_MD_filled_12 rfl (lv_at hl 2 rfl) ?_
      refine sx_get C0 hP 0 rfl rfl 4 (by decide) f_MD_23 rfl rfl d_MD_filled_13 ?_
      refine lv_iload_n hx hb d_MD_filled_16 rfl (lv_at hl 0 rfl) ?_
      refine sx_lald (i := i) (v := V i) C0 hP 1 rfl rfl (show i < 256 by omega) (by decide) rfl d_MD_filled_17 ?_
      refine lv_lconst (v := 0) hx hb d_MD_filled_18 (by decide) ?_
      refine sx_lifeq (tgt := 27) C0 d_MD_filled_19 d_MD_filled_20 (by decide) (fun h1 => ?_) (fun h1 => ?_)
      · have e2 : p_cnL V (i + 1) = p_cnL V i := by show p_cnL V i + _ = _; rw [if_pos h1, Nat.add_zero]
        refine lv_iconst (v := nI 0) hx hb d_MD_filled_27 (by decide +kernel) ?_
        refine lv_iadd hx hb d_MD_filled_28 ?_
        refine sx_topi (y := nI (p_cnL V i)) (by rw [nI_add, Nat.add_zero]) ?_
        refine lv_istore_n hx hb d_MD_filled_29 rfl hl (by decide) rfl (fun ls hl => ?_)
        have hl : lv_has ls 3 [(1, .int (nI (p_cnL V i))), (2, .int (nI i)), (0, .ref (md 0))] := hl
        refine lv_iinc (k := 1) (v := nI (i + 1)) hx hb d_MD_filled_30 hl rfl (nI_1 i) (by decide) rfl (fun ls hl => ?_)
        have hl : lv_has ls 3 [(2, .int (nI (i + 1))), (1, .int (nI (p_cnL V i))), (0, .ref (md 0))] := hl
        refine lv_goto (tgt := 4) hx hb d_MD_filled_33 (by decide) ?_
        exact ih (i + 1) ls (by omega) (by rw [e2]; exact hl)
      · have e2 : p_cnL V (i + 1) = p_cnL V i + 1 := by show p_cnL V i + _ = _; rw [if_neg h1]
        refine lv_iconst (v := nI 1) hx hb d_MD_filled_23 (by decide +kernel) ?_
        refine lv_goto (tgt := 28) hx hb d_MD_filled_24 (by decide) ?_
        refine lv_iadd hx hb d_MD_filled_28 ?_
        refine sx_topi (y := nI (p_cnL V i + 1)) (nI_add _ _) ?_
        refine lv_istore_n hx hb d_MD_filled_29 rfl hl (by decide) rfl (fun ls hl => ?_)
        have hl : lv_has ls 3 [(1, .int (nI (p_cnL V i + 1))), (2, .int (nI i)), (0, .ref (md 0))] := hl
        refine lv_iinc (k := 1) (v := nI (i + 1)) hx hb d_MD_filled_30 hl rfl (nI_1 i) (by decide) rfl (fun ls hl => ?_)
        have hl : lv_has ls 3 [(2, .int (nI (i + 1))), (1, .int (nI (p_cnL V i + 1))), (0, .ref (md 0))] := hl
        refine lv_goto (tgt := 4) hx hb d_MD_filled_33 (by decide) ?_
        exact ih (i + 1) ls (by omega) (by rw [e2]; exact hl)
  refine lv_iconst (v := nI 0) hx hb d_MD_filled_0 (by decide +kernel) ?_
  refine lv_istore_n hx hb d_MD_filled_1 rfl hl (by decide) rfl (fun ls hl => ?_)
  have hl : lv_has ls 3 [(1, .int (nI 0)), (0, .ref (md 0))] := hl
  refine lv_iconst (v := nI 0) hx hb d_MD_filled_2 (by decide +kernel) ?_
  refine lv_istore_n hx hb d_MD_filled_3 rfl hl (by decide) rfl (fun ls hl => ?_)
  have hl : lv_has ls 3 [(2, .int (nI 0)), (1, .int (nI 0)), (0, .ref (md 0))] := hl
  exact loop 256 0 ls rfl hl
theorem c_MD_begin : sx_Ctr l y_MD_begin w_MD_begin (sx_rm 1 0 0 22) G [.ref (md 0)] (wM4 G md fl V F T rf dp) (sx_is G (some (.int (nI (p_cnL V 256)))) (wM4 G md 0 V V (fun _ => 0) 0 0)) := by
  refine sx_Ctr.of (by decide +kernel) (Nat.le_of_ble_eq_true rfl) ?_
  intro p e s m below meth c9 ls A C0 hr hlk hnm hl hP hD hA hS
  have C0 : sx_C p s m c9 b_MD_begin 2 sx_MD G := C0
  have hx := C0.1
  have hb := C0.2.1
  have hl : lv_has ls 2 [(0, .ref (md 0))] := hl
  have loop : ∀ (k i : Nat) (ls : Array Slot) (H : Heap) (locs : List Loc), i + k = 256 → lv_has ls 2 [(1, .int (nI i)), (0, .ref (md 0))] → va_P G.1 sx_cls (wM4 G md 0 V (p_mix V F i) (p_mix (fun _ => 0) T i) rf dp) H → va_D A (wM4 G md 0 V (p_mix V F i) (p_mix (fun _ => 0) T i) rf dp) → va_S A s.heap H locs → W p l e (sx_rm 1 0 0 22) s m ([.ref (md 0)] : List Value).toArray below meth c9 H locs 0 0 (MQ below (sx_Q (sx_is G (some (.int (nI (p_cnL V 256)))) (wM4 G md 0 V V (fun _ => 0) 0 0)) A) ([.ref (md 0)] : List Value).toArray s 0 0 A) (F0 m 7 ls []) := by
    intro k
    induction k with
    | zero =>
      intro i ls H locs hi hl hP hD hS
      have e1 : i = 256 := hi
      subst e1
      refine lv_iload_n hx hb d_MD_begin_7 rfl (lv_at hl 0 rfl) ?_
      refine lv_sipush (v := nI 256) hx hb d_MD_begin_8 (by decide +kernel) ?_
      refine lv_icmp_ge (tgt := 39) hx hb d_MD_begin_11 (by decide) (fun _ => ?_) (fun z => absurd (Int32.le_refl _) z)
      have hP := sx_extA (k := 2) (e1 := (G.2 1, 256, .inr (.inl V))) hP rfl (sx_cellL (fun j hj => p_mix_lt hj))
      have hD := va_D.set (p := 2) (e := .inl (G.2 1, 256, .inr (.inl V))) hD rfl
      have hP := sx_extA (k := 3) (e1 := (G.2 2, 256, .inl (fun _ => 0))) hP rfl (sx_cellI (fun j hj => p_mix_lt hj))
      have hD := va_D.set (p := 3) (e := .inl (G.2 2, 256, .inl (fun _ => 0))) hD rfl
      have hP : va_P G.1 sx_cls ([(md 0, .inr (2, [.int 0, .ref (md 1), .ref (md 2), .ref (md 3), .ref (md 4), .ref (md 5), .ref (md 6), .int rf, .int (nI dp)])), (md 4, .inl (G.2 1, 256, .inr (.inl V))), (md 5, .inl (G.2 1, 256, .inr (.inl V))), (md 6, .inl (G.2 2, 256, .inl (fun _ => 0)))]) H := hP
      have hD : va_D A ([(md 0, .inr (2, [.int 0, .ref (md 1), .ref (md 2), .ref (md 3), .ref (md 4), .ref (md 5), .ref (md 6), .int rf, .int (nI dp)])), (md 4, .inl (G.2 1, 256, .inr (.inl V))), (md 5, .inl (G.2 1, 256, .inr (.inl V))), (md 6, .inl (G.2 2, 256, .inl (fun _ => 0)))]) := hD
      refine lv_aload_n hx hb d_MD_begin_39 rfl (lv_at hl 1 rfl) ?_
      refine lv_iconst (v := 0) hx hb d_MD_begin_40 (by decide) ?_
      refine sx_put (ty := .int) C0 hP hD hS 0 rfl rfl 7 (by decide) f_MD_38 rfl rfl (by decide +kernel) rfl rfl (Nat.le_of_ble_eq_true rfl) d_MD_begin_41 (fun H locs hP hD hS => ?_)
      have hP : va_P G.1 sx_cls ([(md 0, .inr (2, [.int 0, .ref (md 1), .ref (md 2), .ref (md 3), .ref (md 4), .ref (md 5), .ref (md 6), .int 0, .int (nI dp)])), (md 4, .inl (G.2 1, 256, .inr (.inl V))), (md 5, .inl (G.2 1, 256, .inr (.inl V))), (md 6, .inl (G.2 2, 256, .inl (fun _ => 0)))]) H := hP
      have hD : va_D A ([(md 0, .inr (2, [.int 0, .ref (md 1), .ref (md 2), .ref (md 3), .ref (md 4), .ref (md 5), .ref (md 6), .int 0, .int (nI dp)])), (md 4, .inl (G.2 1, 256, .inr (.inl V))), (md 5, .inl (G.2 1, 256, .inr (.inl V))), (md 6, .inl (G.2 2, 256, .inl (fun _ => 0)))]) := hD
      refine lv_aload_n hx hb d_MD_begin_44 rfl (lv_at hl 1 rfl) ?_
      refine lv_iconst (v := nI 0) hx hb d_MD_begin_45 (by decide +kernel) ?_
      refine sx_put (ty := .int) C0 hP hD hS 0 rfl rfl 8 (by decide) f_MD_41 rfl rfl (by decide +kernel) rfl rfl (Nat.le_of_ble_eq_true rfl) d_MD_begin_46 (fun H locs hP hD hS => ?_)
      have hP : va_P G.1 sx_cls ([(md 0, .inr (2, [.int 0, .ref (md 1), .ref (md 2), .ref (md 3), .ref (md 4), .ref (md 5), .ref (md 6), .int 0, .int (nI 0)])), (md 4, .inl (G.2 1, 256, .inr (.inl V))), (md 5, .inl (G.2 1, 256, .inr (.inl V))), (md 6, .inl (G.2 2, 256, .inl (fun _ => 0)))]) H := hP
      have hD : va_D A ([(md 0, .inr (2, [.int 0, .ref (md 1), .ref (md 2), .ref (md 3), .ref (md 4), .ref (md 5), .ref (md 6), .int 0, .int (nI 0)])), (md 4, .inl (G.2 1, 256, .inr (.inl V))), (md 5, .inl (G.2 1, 256, .inr (.inl V))), (md 6, .inl (G.2 2, 256, .inl (fun _ => 0)))]) := hD
      refine lv_aload_n hx hb d_MD_begin_49 rfl (lv_at hl 1 rfl) ?_
      refine sx_cVP (As := []) (rest := []) (wc := (wM4 G md 0 V V (fun _ => 0) 0 0)) (k0 := 0) C0 c_MD_filled q_MD_44 i_MD_filled ⟨Nat.le_of_ble_eq_true rfl, Nat.le_of_ble_eq_true rfl⟩ rfl rfl rfl hP hl.1 rfl (Nat.zero_le _) d_MD_begin_50 ⟨Nat.zero_le _, Nat.zero_le _⟩ ?_
      exact sx_iret C0 hr hlk hS ⟨rfl, hP, hD⟩ d_MD_begin_53
    | succ k ih =>
      intro i ls H locs hi hl hP hD hS
      refine lv_iload_n hx hb d_MD_begin_7 rfl (lv_at hl 0 rfl) ?_
      refine lv_sipush (v := nI 256) hx hb d_MD_begin_8 (by decide +kernel) ?_
      refine lv_icmp_ge (tgt := 39) hx hb d_MD_begin_11 (by decide) (fun z => absurd z (nI_ge (show i < 256 by omega) (by decide))) (fun _ => ?_)
      refine lv_aload_n hx hb d_MD_begin_14 rfl (lv_at hl 1 rfl) ?_
      refine sx_get C0 hP 0 rfl rfl 5 (by decide) f_MD_27 rfl rfl d_MD_begin_15 ?_
      refine lv_iload_n hx hb d_MD_begin_18 rfl (lv_at hl 0 rfl) ?_
      refine lv_aload_n hx hb d_MD_begin_19 rfl (lv_at hl 1 rfl) ?_
      refine sx_get C0 hP 0 rfl rfl 4 (by decide) f_MD_23 rfl rfl d_MD_begin_20 ?_
      refine lv_iload_n hx hb d_MD_begin_23 rfl (lv_at hl 0 rfl) ?_
      refine sx_lald (i := i) (v := V i) C0 hP 1 rfl rfl (show i < 256 by omega) (by decide) rfl d_MD_begin_24 ?_
      refine sx_last (i := i) C0 hP hD hS 2 rfl rfl (show i < 256 by omega) (by decide) d_MD_begin_25 (fun H locs hP hD hS => ?_)
      rw [p_mixL] at hP hD
      have hP : va_P G.1 sx_cls ([(md 0, .inr (2, [.int 0, .ref (md 1), .ref (md 2), .ref (md 3), .ref (md 4), .ref (md 5), .ref (md 6), .int rf, .int (nI dp)])), (md 4, .inl (G.2 1, 256, .inr (.inl V))), (md 5, .inl (G.2 1, 256, .inr (.inl (p_mix V F (i + 1))))), (md 6, .inl (G.2 2, 256, .inl (p_mix (fun _ => 0) T i)))]) H := hP
      have hD : va_D A ([(md 0, .inr (2, [.int 0, .ref (md 1), .ref (md 2), .ref (md 3), .ref (md 4), .ref (md 5), .ref (md 6), .int rf, .int (nI dp)])), (md 4, .inl (G.2 1, 256, .inr (.inl V))), (md 5, .inl (G.2 1, 256, .inr (.inl (p_mix V F (i + 1))))), (md 6, .inl (G.2 2, 256, .inl (p_mix (fun _ => 0) T i)))]) := hD
      refine lv_aload_n hx hb d_MD_begin_26 rfl (lv_at hl 1 rfl) ?_
      refine sx_get C0 hP 0 rfl rfl 6 (by decide) f_MD_30 rfl rfl d_MD_begin_27 ?_
      refine lv_iload_n hx hb d_MD_begin_30 rfl (lv_at hl 0 rfl) ?_
      refine lv_iconst (v := 0) hx hb d_MD_begin_31 (by decide) ?_
      refine sx_zast (i := i) C0 (by decide +kernel) hP hD hS 3 rfl rfl (show i < 256 by omega) (by decide) d_MD_begin_32 (fun H locs hP hD hS => ?_)
      rw [p_mixI (fun _ => 0) T i] at hP hD
      have hP : va_P G.1 sx_cls ([(md 0, .inr (2, [.int 0, .ref (md 1), .ref (md 2), .ref (md 3), .ref (md 4), .ref (md 5), .ref (md 6), .int rf, .int (nI dp)])), (md 4, .inl (G.2 1, 256, .inr (.inl V))), (md 5, .inl (G.2 1, 256, .inr (.inl (p_mix V F (i + 1))))), (md 6, .inl (G.2 2, 256, .inl (p_mix (fun _ => 0) T (i + 1))))]) H := hP
      have hD : va_D A ([(md 0, .inr (2, [.int 0, .ref (md 1), .ref (md 2), .ref (md 3), .ref (md 4), .ref (md 5), .ref (md 6), .int rf, .int (nI dp)])), (md 4, .inl (G.2 1, 256, .inr (.inl V))), (md 5, .inl (G.2 1, 256, .inr (.inl (p_mix V F (i + 1))))), (md 6, .inl (G.2 2, 256, .inl (p_mix (fun _ => 0) T (i + 1))))]) := hD
      refine lv_iinc (k := 0) (v := nI (i + 1)) hx hb d_MD_begin_33 hl rfl (nI_1 i) (by decide) rfl (fun ls hl => ?_)
      have hl : lv_has ls 2 [(1, .int (nI (i + 1))), (0, .ref (md 0))] := hl
      refine lv_goto (tgt := 7) hx hb d_MD_begin_36 (by decide) ?_
      exact ih (i + 1) ls H locs (by omega) hl hP hD hS
  refine lv_aload_n hx hb d_MD_begin_0 rfl (lv_at hl 0 rfl) ?_
  refine lv_iconst (v := 0) hx hb d_MD_begin_1 (by decide) ?_
  refine sx_put (ty := .int) C0 hP hD hS 0 rfl rfl 0 (by decide) f_MD_34 rfl rfl (by decide +kernel) rfl rfl (Nat.le_of_ble_eq_true rfl) d_MD_begin_2 (fun H locs hP hD hS => ?_)
  have hP : va_P G.1 sx_cls ([(md 0, .inr (2, [.int 0, .ref (md 1), .ref (md 2), .ref (md 3), .ref (md 4), .ref (md 5), .ref (md 6), .int rf, .int (nI dp)])), (md 4, .inl (G.2 1, 256, .inr (.inl V))), (md 5, .inl (G.2 1, 256, .inr (.inl F))), (md 6, .inl (G.2 2, 256, .inl T))]) H := hP
  have hD : va_D A ([(md 0, .inr (2, [.int 0, .ref (md 1), .ref (md 2), .ref (md 3), .ref (md 4), .ref (md 5), .ref (md 6), .int rf, .int (nI dp)])), (md 4, .inl (G.2 1, 256, .inr (.inl V))), (md 5, .inl (G.2 1, 256, .inr (.inl F))), (md 6, .inl (G.2 2, 256, .inl T))]) := hD
  refine lv_iconst (v := nI 0) hx hb d_MD_begin_5 (by decide +kernel) ?_
  refine lv_istore_n hx hb d_MD_begin_6 rfl hl (by decide) rfl (fun ls hl => ?_)
  have hl : lv_has ls 2 [(1, .int (nI 0)), (0, .ref (md 0))] := hl
  exact loop 256 0 ls H _ rfl hl (by rw [p_mix_0, p_mix_0]; exact hP) (by rw [p_mix_0, p_mix_0]; exact hD) hS
theorem c_MD_out0 {a b : Nat} {ws : va_W} (ha : a < 4) (hb1 : b < 64) : sx_CtrP l y_MD_out w_MD_out 0 0 G [.ref (md 0), .int (nI a), .int (nI b)] ws (.int 0) := by
  refine sx_CtrP.of (by decide +kernel) (Nat.le_of_ble_eq_true rfl) ?_
  intro p e s m below meth c9 ls C0 hr hlk hl hP
  have C0 : sx_C p s m c9 b_MD_out 3 sx_MD G := C0
  have hx := C0.1
  have hb := C0.2.1
  have hl : lv_has ls 3 [(0, .ref (md 0)), (1, .int (nI a)), (2, .int (nI b))] := hl
  refine lv_iload_n hx hb d_MD_out_0 rfl (lv_at hl 1 rfl) ?_
  refine lv_if_lt (tgt := 19) hx hb d_MD_out_1 (by decide) (fun z => absurd z (nI_pos (by omega))) (fun _ => ?_)
  refine lv_iload_n hx hb d_MD_out_4 rfl (lv_at hl 1 rfl) ?_
  refine lv_iconst (v := nI 3) hx hb d_MD_out_5 (by decide +kernel) ?_
  refine lv_icmp_gt (tgt := 19) hx hb d_MD_out_6 (by decide) (fun z => absurd z (nI_nlt (by omega) (by omega))) (fun _ => ?_)
  refine lv_iload_n hx hb d_MD_out_9 rfl (lv_at hl 2 rfl) ?_
  refine lv_if_lt (tgt := 19) hx hb d_MD_out_10 (by decide) (fun z => absurd z (nI_pos (by omega))) (fun _ => ?_)
  refine lv_iload_n hx hb d_MD_out_13 rfl (lv_at hl 2 rfl) ?_
  refine lv_bipush (v := nI 63) hx hb d_MD_out_14 (by decide +kernel) ?_
  refine lv_icmp_le (tgt := 23) hx hb d_MD_out_16 (by decide) (fun _ => ?_) (fun z => absurd (nI_le (by omega) (by decide)) z)
  refine lv_iconst (v := 0) hx hb d_MD_out_23 (by decide) ?_
  exact sx_zretP C0 hr rfl hlk d_MD_out_24
theorem c_MD_out1 {o1 p1 : Int32} {ws : va_W} (ho : p_out o1 p1) : sx_CtrP l y_MD_out w_MD_out 0 0 G [.ref (md 0), .int o1, .int p1] ws (.int 1) := by
  refine sx_CtrP.of (by decide +kernel) (Nat.le_of_ble_eq_true rfl) ?_
  intro p e s m below meth c9 ls C0 hr hlk hl hP
  have C0 : sx_C p s m c9 b_MD_out 3 sx_MD G := C0
  have hx := C0.1
  have hb := C0.2.1
  have hl : lv_has ls 3 [(0, .ref (md 0)), (1, .int o1), (2, .int p1)] := hl
  have one : W p l e (sx_rm 0 0 0 0) s m ([.ref (md 0), .int o1, .int p1] : List Value).toArray below meth c9 s.heap [] 0 0 (MQ below (sx_QP (.int 1)) ([.ref (md 0), .int o1, .int p1] : List Value).toArray s 0 0 (fun _ => False)) (F0 m 19 ls []) := by
    refine lv_iconst (v := 1) hx hb d_MD_out_19 (by decide) ?_
    refine lv_goto (tgt := 24) hx hb d_MD_out_20 (by decide) ?_
    exact sx_zretP C0 hr rfl hlk d_MD_out_24
  have e3 : (3 : Int32) = nI 3 := by decide +kernel
  have e4 : (4 : Int32) = nI 4 := by decide +kernel
  have e63 : (63 : Int32) = nI 63 := by decide +kernel
  have e64 : (64 : Int32) = nI 64 := by decide +kernel
  refine lv_iload_n hx hb d_MD_out_0 rfl (lv_at hl 1 rfl) ?_
  refine lv_if_lt (tgt := 19) hx hb d_MD_out_1 (by decide) (fun h1 => ?_) (fun h1 => ?_)
  · exact one
  · skip
    refine lv_iload_n hx hb d_MD_out_4 rfl (lv_at hl 1 rfl) ?_
    refine lv_iconst (v := 3) hx hb d_MD_out_5 (by decide) ?_
    refine lv_icmp_gt (tgt := 19) hx hb d_MD_out_6 (by decide) (fun h2 => ?_) (fun h2 => ?_)
    · exact one
    · skip
      refine lv_iload_n hx hb d_MD_out_9 rfl (lv_at hl 2 rfl) ?_
      refine lv_if_lt (tgt := 19) hx hb d_MD_out_10 (by decide) (fun h3 => ?_) (fun h3 => ?_)
      · exact one
      · skip
        refine lv_iload_n hx hb d_MD_out_13 rfl (lv_at hl 2 rfl) ?_
        refine lv_bipush (v := 63) hx hb d_MD_out_14 (by decide) ?_
        refine lv_icmp_le (tgt := 23) hx hb d_MD_out_16 (by decide) (fun h4 => ?_) (fun h4 => ?_)
        · exfalso
          obtain ⟨j, hj, rfl⟩ := nI_of h1
          obtain ⟨j2, hj2, rfl⟩ := nI_of h3
          rw [e3, nI_ltI (by decide) hj] at h2
          rw [e63, nI_leI hj2 (by decide)] at h4
          rcases ho with h | h | h | h
          · exact h1 h
          · rw [e4, nI_leI (by decide) hj] at h
            omega
          · exact h3 h
          · rw [e64, nI_leI (by decide) hj2] at h
            omega
        · exact one
theorem c_MD_load1 {o1 p1 : Int32} (ho : p_out o1 p1) : sx_Ctr l y_MD_load w_MD_load (sx_rm 1 0 0 22) G [.ref (md 0), .int o1, .int p1] (wM4 G md fl V F T rf dp) (sx_is G (some (.int 0)) (wM4 G md 1 V F T rf dp)) := by
  refine sx_Ctr.of (by decide +kernel) (Nat.le_of_ble_eq_true rfl) ?_
  intro p e s m below meth c9 ls A C0 hr hlk hnm hl hP hD hA hS
  have C0 : sx_C p s m c9 b_MD_load 4 sx_MD G := C0
  have hx := C0.1
  have hb := C0.2.1
  have hl : lv_has ls 4 [(0, .ref (md 0)), (1, .int o1), (2, .int p1)] := hl
  refine lv_aload_n hx hb d_MD_load_0 rfl (lv_at hl 0 rfl) ?_
  refine lv_iconst (v := 0) hx hb d_MD_load_1 (by decide) ?_
  refine sx_put (ty := .int) C0 hP hD hS 0 rfl rfl 0 (by decide) f_MD_34 rfl rfl (by decide +kernel) rfl rfl (Nat.le_of_ble_eq_true rfl) d_MD_load_2 (fun H locs hP hD hS => ?_)
  have hP : va_P G.1 sx_cls ([(md 0, .inr (2, [.int 0, .ref (md 1), .ref (md 2), .ref (md 3), .ref (md 4), .ref (md 5), .ref (md 6), .int rf, .int (nI dp)])), (md 4, .inl (G.2 1, 256, .inr (.inl V))), (md 5, .inl (G.2 1, 256, .inr (.inl F))), (md 6, .inl (G.2 2, 256, .inl T))]) H := hP
  have hD : va_D A ([(md 0, .inr (2, [.int 0, .ref (md 1), .ref (md 2), .ref (md 3), .ref (md 4), .ref (md 5), .ref (md 6), .int rf, .int (nI dp)])), (md 4, .inl (G.2 1, 256, .inr (.inl V))), (md 5, .inl (G.2 1, 256, .inr (.inl F))), (md 6, .inl (G.2 2, 256, .inl T))]) := hD
  refine lv_aload_n hx hb d_MD_load_5 rfl (lv_at hl 0 rfl) ?_
  refine lv_iload_n hx hb d_MD_load_6 rfl (lv_at hl 1 rfl) ?_
  refine lv_iload_n hx hb d_MD_load_7 rfl (lv_at hl 2 rfl) ?_
  refine sx_cVP (As := [.int o1, .int p1]) (rest := []) (k0 := 0) C0 (c_MD_out1 ho) q_MD_52 i_MD_out ⟨Nat.le_of_ble_eq_true rfl, Nat.le_of_ble_eq_true rfl⟩ rfl rfl rfl hP hl.1 rfl (Nat.zero_le _) d_MD_load_8 ⟨Nat.zero_le _, Nat.zero_le _⟩ ?_
  refine lv_if_eq (tgt := 20) hx hb d_MD_load_11 (by decide) (fun z => absurd z ((by decide : ¬ (1 : Int32) = 0))) (fun _ => ?_)
  refine lv_aload_n hx hb d_MD_load_14 rfl (lv_at hl 0 rfl) ?_
  refine lv_iconst (v := 1) hx hb d_MD_load_15 (by decide) ?_
  refine sx_cV (As := [.int 1]) (rest := []) (wa := []) (wb := []) (k0 := 0) C0 (c_MD_fail (fl := 0) (V := V) (F := F) (T := T) (rf := rf) (dp := dp)) q_MD_48 i_MD_fail ⟨Nat.le_of_ble_eq_true rfl, Nat.le_of_ble_eq_true rfl⟩ rfl rfl rfl hP hD hS hA hl.1 rfl (Nat.zero_le _) d_MD_load_16 ⟨Nat.le_of_ble_eq_true rfl, Nat.le_of_ble_eq_true rfl⟩ (fun r H locs hq hj hS => ?_)
  obtain ⟨rfl, hP1, hD1⟩ := hq
  obtain ⟨hP, hD⟩ := hj _ hP1 hD1
  have hP : va_P G.1 sx_cls ([(md 0, .inr (2, [.int 1, .ref (md 1), .ref (md 2), .ref (md 3), .ref (md 4), .ref (md 5), .ref (md 6), .int rf, .int (nI dp)])), (md 4, .inl (G.2 1, 256, .inr (.inl V))), (md 5, .inl (G.2 1, 256, .inr (.inl F))), (md 6, .inl (G.2 2, 256, .inl T))]) H := hP
  have hD : va_D A ([(md 0, .inr (2, [.int 1, .ref (md 1), .ref (md 2), .ref (md 3), .ref (md 4), .ref (md 5), .ref (md 6), .int rf, .int (nI dp)])), (md 4, .inl (G.2 1, 256, .inr (.inl V))), (md 5, .inl (G.2 1, 256, .inr (.inl F))), (md 6, .inl (G.2 2, 256, .inl T))]) := hD
  exact sx_iret C0 hr hlk hS ⟨rfl, hP, hD⟩ d_MD_load_19
theorem c_MD_load0 {a b : Nat} (ha : a < 4) (hb1 : b < 64) : sx_Ctr l y_MD_load w_MD_load (sx_rm 1 0 0 22) G [.ref (md 0), .int (nI a), .int (nI b)] (wM4 G md fl V F T rf dp) (sx_is G (some (.int (if T (64 * a + b) = 0 then 2100 else 100))) (wM4 G md 0 V F (upd T (64 * a + b) 1) rf dp)) := by
  refine sx_Ctr.of (by decide +kernel) (Nat.le_of_ble_eq_true rfl) ?_
  intro p e s m below meth c9 ls A C0 hr hlk hnm hl hP hD hA hS
  have C0 : sx_C p s m c9 b_MD_load 4 sx_MD G := C0
  have hx := C0.1
  have hb := C0.2.1
  have hl : lv_has ls 4 [(0, .ref (md 0)), (1, .int (nI a)), (2, .int (nI b))] := hl
  refine lv_aload_n hx hb d_MD_load_0 rfl (lv_at hl 0 rfl) ?_
  refine lv_iconst (v := 0) hx hb d_MD_load_1 (by decide) ?_
  refine sx_put (ty := .int) C0 hP hD hS 0 rfl rfl 0 (by decide) f_MD_34 rfl rfl (by decide +kernel) rfl rfl (Nat.le_of_ble_eq_true rfl) d_MD_load_2 (fun H locs hP hD hS => ?_)
  have hP : va_P G.1 sx_cls ([(md 0, .inr (2, [.int 0, .ref (md 1), .ref (md 2), .ref (md 3), .ref (md 4), .ref (md 5), .ref (md 6), .int rf, .int (nI dp)])), (md 4, .inl (G.2 1, 256, .inr (.inl V))), (md 5, .inl (G.2 1, 256, .inr (.inl F))), (md 6, .inl (G.2 2, 256, .inl T))]) H := hP
  have hD : va_D A ([(md 0, .inr (2, [.int 0, .ref (md 1), .ref (md 2), .ref (md 3), .ref (md 4), .ref (md 5), .ref (md 6), .int rf, .int (nI dp)])), (md 4, .inl (G.2 1, 256, .inr (.inl V))), (md 5, .inl (G.2 1, 256, .inr (.inl F))), (md 6, .inl (G.2 2, 256, .inl T))]) := hD
  refine lv_aload_n hx hb d_MD_load_5 rfl (lv_at hl 0 rfl) ?_
  refine lv_iload_n hx hb d_MD_load_6 rfl (lv_at hl 1 rfl) ?_
  refine lv_iload_n hx hb d_MD_load_7 rfl (lv_at hl 2 rfl) ?_
  refine sx_cVP (As := [.int (nI a), .int (nI b)]) (rest := []) (k0 := 0) C0 (c_MD_out0 ha hb1) q_MD_52 i_MD_out ⟨Nat.le_of_ble_eq_true rfl, Nat.le_of_ble_eq_true rfl⟩ rfl rfl rfl hP hl.1 rfl (Nat.zero_le _) d_MD_load_8 ⟨Nat.zero_le _, Nat.zero_le _⟩ ?_
  refine lv_if_eq (tgt := 20) hx hb d_MD_load_11 (by decide) (fun _ => ?_) (fun z => absurd (rfl) z)
  refine lv_aload_n hx hb d_MD_load_20 rfl (lv_at hl 0 rfl) ?_
  refine sx_get C0 hP 0 rfl rfl 6 (by decide) f_MD_30 rfl rfl d_MD_load_21 ?_
  refine lv_bipush (v := nI 64) hx hb d_MD_load_24 (by decide +kernel) ?_
  refine lv_iload_n hx hb d_MD_load_26 rfl (lv_at hl 1 rfl) ?_
  refine lv_imul hx hb d_MD_load_27 ?_
  refine sx_topi (y := nI (64 * a)) (pk_mul 64 a) ?_
  refine lv_iload_n hx hb d_MD_load_28 rfl (lv_at hl 2 rfl) ?_
  refine lv_iadd hx hb d_MD_load_29 ?_
  refine sx_topi (y := nI (64 * a + b)) (nI_add _ _) ?_
  refine sx_zald (i := (64 * a + b)) (v := T (64 * a + b)) C0 hP 3 rfl rfl (show 64 * a + b < 256 by omega) (by decide) rfl d_MD_load_30 ?_
  refine lv_if_eq (tgt := 39) hx hb d_MD_load_31 (by decide) (fun h1 => ?_) (fun h1 => ?_)
  · rw [if_pos h1]
    refine lv_sipush (v := 2100) hx hb d_MD_load_39 (by decide) ?_
    refine lv_istore_n hx hb d_MD_load_42 rfl hl (by decide) rfl (fun ls hl => ?_)
    have hl : lv_has ls 4 [(3, .int 2100), (0, .ref (md 0)), (1, .int (nI a)), (2, .int (nI b))] := hl
    refine lv_aload_n hx hb d_MD_load_43 rfl (lv_at hl 1 rfl) ?_
    refine sx_get C0 hP 0 rfl rfl 6 (by decide) f_MD_30 rfl rfl d_MD_load_44 ?_
    refine lv_bipush (v := nI 64) hx hb d_MD_load_47 (by decide +kernel) ?_
    refine lv_iload_n hx hb d_MD_load_49 rfl (lv_at hl 2 rfl) ?_
    refine lv_imul hx hb d_MD_load_50 ?_
    refine sx_topi (y := nI (64 * a)) (pk_mul 64 a) ?_
    refine lv_iload_n hx hb d_MD_load_51 rfl (lv_at hl 3 rfl) ?_
    refine lv_iadd hx hb d_MD_load_52 ?_
    refine sx_topi (y := nI (64 * a + b)) (nI_add _ _) ?_
    refine lv_iconst (v := 1) hx hb d_MD_load_53 (by decide) ?_
    refine sx_zast (i := (64 * a + b)) C0 (by decide +kernel) hP hD hS 3 rfl rfl (show 64 * a + b < 256 by omega) (by decide) d_MD_load_54 (fun H locs hP hD hS => ?_)
    have hP : va_P G.1 sx_cls ([(md 0, .inr (2, [.int 0, .ref (md 1), .ref (md 2), .ref (md 3), .ref (md 4), .ref (md 5), .ref (md 6), .int rf, .int (nI dp)])), (md 4, .inl (G.2 1, 256, .inr (.inl V))), (md 5, .inl (G.2 1, 256, .inr (.inl F))), (md 6, .inl (G.2 2, 256, .inl (upd T (64 * a + b) 1)))]) H := hP
    have hD : va_D A ([(md 0, .inr (2, [.int 0, .ref (md 1), .ref (md 2), .ref (md 3), .ref (md 4), .ref (md 5), .ref (md 6), .int rf, .int (nI dp)])), (md 4, .inl (G.2 1, 256, .inr (.inl V))), (md 5, .inl (G.2 1, 256, .inr (.inl F))), (md 6, .inl (G.2 2, 256, .inl (upd T (64 * a + b) 1)))]) := hD
    refine lv_iload_n hx hb d_MD_load_55 rfl (lv_at hl 0 rfl) ?_
    exact sx_iret C0 hr hlk hS ⟨rfl, hP, hD⟩ d_MD_load_56
  · rw [if_neg h1]
    refine lv_bipush (v := 100) hx hb d_MD_load_34 (by decide) ?_
    refine lv_goto (tgt := 42) hx hb d_MD_load_36 (by decide) ?_
    refine lv_istore_n hx hb d_MD_load_42 rfl hl (by decide) rfl (fun ls hl => ?_)
    have hl : lv_has ls 4 [(3, .int 100), (0, .ref (md 0)), (1, .int (nI a)), (2, .int (nI b))] := hl
    refine lv_aload_n hx hb d_MD_load_43 rfl (lv_at hl 1 rfl) ?_
    refine sx_get C0 hP 0 rfl rfl 6 (by decide) f_MD_30 rfl rfl d_MD_load_44 ?_
    refine lv_bipush (v := nI 64) hx hb d_MD_load_47 (by decide +kernel) ?_
    refine lv_iload_n hx hb d_MD_load_49 rfl (lv_at hl 2 rfl) ?_
    refine lv_imul hx hb d_MD_load_50 ?_
    refine sx_topi (y := nI (64 * a)) (pk_mul 64 a) ?_
    refine lv_iload_n hx hb d_MD_load_51 rfl (lv_at hl 3 rfl) ?_
    refine lv_iadd hx hb d_MD_load_52 ?_
    refine sx_topi (y := nI (64 * a + b)) (nI_add _ _) ?_
    refine lv_iconst (v := 1) hx hb d_MD_load_53 (by decide) ?_
    refine sx_zast (i := (64 * a + b)) C0 (by decide +kernel) hP hD hS 3 rfl rfl (show 64 * a + b < 256 by omega) (by decide) d_MD_load_54 (fun H locs hP hD hS => ?_)
    have hP : va_P G.1 sx_cls ([(md 0, .inr (2, [.int 0, .ref (md 1), .ref (md 2), .ref (md 3), .ref (md 4), .ref (md 5), .ref (md 6), .int rf, .int (nI dp)])), (md 4, .inl (G.2 1, 256, .inr (.inl V))), (md 5, .inl (G.2 1, 256, .inr (.inl F))), (md 6, .inl (G.2 2, 256, .inl (upd T (64 * a + b) 1)))]) H := hP
    have hD : va_D A ([(md 0, .inr (2, [.int 0, .ref (md 1), .ref (md 2), .ref (md 3), .ref (md 4), .ref (md 5), .ref (md 6), .int rf, .int (nI dp)])), (md 4, .inl (G.2 1, 256, .inr (.inl V))), (md 5, .inl (G.2 1, 256, .inr (.inl F))), (md 6, .inl (G.2 2, 256, .inl (upd T (64 * a + b) 1)))]) := hD
    refine lv_iload_n hx hb d_MD_load_55 rfl (lv_at hl 0 rfl) ?_
    exact sx_iret C0 hr hlk hS ⟨rfl, hP, hD⟩ d_MD_load_56
theorem c_MD_held9 {o1 p1 g : Int32} (ho : p_out o1 p1) : sx_Ctr l y_MD_held w_MD_held (sx_rm 1 0 0 22) G [.ref (md 0), .int o1, .int p1, .int g] (wM4 G md fl V F T rf dp) (sx_is G (some (.long 0)) (wM4 G md 1 V F T rf dp)) := by
  refine sx_Ctr.of (by decide +kernel) (Nat.le_of_ble_eq_true rfl) ?_
  intro p e s m below meth c9 ls A C0 hr hlk hnm hl hP hD hA hS
  have C0 : sx_C p s m c9 b_MD_held 4 sx_MD G := C0
  have hx := C0.1
  have hb := C0.2.1
  have hl : lv_has ls 4 [(0, .ref (md 0)), (1, .int o1), (2, .int p1), (3, .int g)] := hl
  refine lv_aload_n hx hb d_MD_held_0 rfl (lv_at hl 0 rfl) ?_
  refine lv_iconst (v := 0) hx hb d_MD_held_1 (by decide) ?_
  refine sx_put (ty := .int) C0 hP hD hS 0 rfl rfl 0 (by decide) f_MD_34 rfl rfl (by decide +kernel) rfl rfl (Nat.le_of_ble_eq_true rfl) d_MD_held_2 (fun H locs hP hD hS => ?_)
  have hP : va_P G.1 sx_cls ([(md 0, .inr (2, [.int 0, .ref (md 1), .ref (md 2), .ref (md 3), .ref (md 4), .ref (md 5), .ref (md 6), .int rf, .int (nI dp)])), (md 4, .inl (G.2 1, 256, .inr (.inl V))), (md 5, .inl (G.2 1, 256, .inr (.inl F))), (md 6, .inl (G.2 2, 256, .inl T))]) H := hP
  have hD : va_D A ([(md 0, .inr (2, [.int 0, .ref (md 1), .ref (md 2), .ref (md 3), .ref (md 4), .ref (md 5), .ref (md 6), .int rf, .int (nI dp)])), (md 4, .inl (G.2 1, 256, .inr (.inl V))), (md 5, .inl (G.2 1, 256, .inr (.inl F))), (md 6, .inl (G.2 2, 256, .inl T))]) := hD
  refine lv_aload_n hx hb d_MD_held_5 rfl (lv_at hl 0 rfl) ?_
  refine lv_iload_n hx hb d_MD_held_6 rfl (lv_at hl 1 rfl) ?_
  refine lv_iload_n hx hb d_MD_held_7 rfl (lv_at hl 2 rfl) ?_
  refine sx_cVP (As := [.int o1, .int p1]) (rest := []) (k0 := 0) C0 (c_MD_out1 ho) q_MD_52 i_MD_out ⟨Nat.le_of_ble_eq_true rfl, Nat.le_of_ble_eq_true rfl⟩ rfl rfl rfl hP hl.1 rfl (Nat.zero_le _) d_MD_held_8 ⟨Nat.zero_le _, Nat.zero_le _⟩ ?_
  refine lv_if_eq (tgt := 21) hx hb d_MD_held_11 (by decide) (fun z => absurd z ((by decide : ¬ (1 : Int32) = 0))) (fun _ => ?_)
  refine lv_aload_n hx hb d_MD_held_14 rfl (lv_at hl 0 rfl) ?_
  refine lv_iconst (v := 1) hx hb d_MD_held_15 (by decide) ?_
  refine sx_cV (As := [.int 1]) (rest := []) (wa := []) (wb := []) (k0 := 0) C0 (c_MD_fail (fl := 0) (V := V) (F := F) (T := T) (rf := rf) (dp := dp)) q_MD_48 i_MD_fail ⟨Nat.le_of_ble_eq_true rfl, Nat.le_of_ble_eq_true rfl⟩ rfl rfl rfl hP hD hS hA hl.1 rfl (Nat.zero_le _) d_MD_held_16 ⟨Nat.le_of_ble_eq_true rfl, Nat.le_of_ble_eq_true rfl⟩ (fun r H locs hq hj hS => ?_)
  obtain ⟨rfl, hP1, hD1⟩ := hq
  obtain ⟨hP, hD⟩ := hj _ hP1 hD1
  have hP : va_P G.1 sx_cls ([(md 0, .inr (2, [.int 1, .ref (md 1), .ref (md 2), .ref (md 3), .ref (md 4), .ref (md 5), .ref (md 6), .int rf, .int (nI dp)])), (md 4, .inl (G.2 1, 256, .inr (.inl V))), (md 5, .inl (G.2 1, 256, .inr (.inl F))), (md 6, .inl (G.2 2, 256, .inl T))]) H := hP
  have hD : va_D A ([(md 0, .inr (2, [.int 1, .ref (md 1), .ref (md 2), .ref (md 3), .ref (md 4), .ref (md 5), .ref (md 6), .int rf, .int (nI dp)])), (md 4, .inl (G.2 1, 256, .inr (.inl V))), (md 5, .inl (G.2 1, 256, .inr (.inl F))), (md 6, .inl (G.2 2, 256, .inl T))]) := hD
  refine lv_i2l (v := 0) hx hb d_MD_held_19 (by decide) ?_
  exact sx_lret C0 hr hlk hS ⟨rfl, hP, hD⟩ d_MD_held_20
theorem c_MD_held1 {a b : Nat} {g : Int32} (ha : a < 4) (hb1 : b < 64) (hg : ¬ g = 0) : sx_Ctr l y_MD_held w_MD_held (sx_rm 1 0 0 22) G [.ref (md 0), .int (nI a), .int (nI b), .int g] (wM4 G md fl V F T rf dp) (sx_is G (some (.long (F (64 * a + b)))) (wM4 G md 0 V F T rf dp)) := by
  refine sx_Ctr.of (by decide +kernel) (Nat.le_of_ble_eq_true rfl) ?_
  intro p e s m below meth c9 ls A C0 hr hlk hnm hl hP hD hA hS
  have C0 : sx_C p s m c9 b_MD_held 4 sx_MD G := C0
  have hx := C0.1
  have hb := C0.2.1
  have hl : lv_has ls 4 [(0, .ref (md 0)), (1, .int (nI a)), (2, .int (nI b)), (3, .int g)] := hl
  refine lv_aload_n hx hb d_MD_held_0 rfl (lv_at hl 0 rfl) ?_
  refine lv_iconst (v := 0) hx hb d_MD_held_1 (by decide) ?_
  refine sx_put (ty := .int) C0 hP hD hS 0 rfl rfl 0 (by decide) f_MD_34 rfl rfl (by decide +kernel) rfl rfl (Nat.le_of_ble_eq_true rfl) d_MD_held_2 (fun H locs hP hD hS => ?_)
  have hP : va_P G.1 sx_cls ([(md 0, .inr (2, [.int 0, .ref (md 1), .ref (md 2), .ref (md 3), .ref (md 4), .ref (md 5), .ref (md 6), .int rf, .int (nI dp)])), (md 4, .inl (G.2 1, 256, .inr (.inl V))), (md 5, .inl (G.2 1, 256, .inr (.inl F))), (md 6, .inl (G.2 2, 256, .inl T))]) H := hP
  have hD : va_D A ([(md 0, .inr (2, [.int 0, .ref (md 1), .ref (md 2), .ref (md 3), .ref (md 4), .ref (md 5), .ref (md 6), .int rf, .int (nI dp)])), (md 4, .inl (G.2 1, 256, .inr (.inl V))), (md 5, .inl (G.2 1, 256, .inr (.inl F))), (md 6, .inl (G.2 2, 256, .inl T))]) := hD
  refine lv_aload_n hx hb d_MD_held_5 rfl (lv_at hl 0 rfl) ?_
  refine lv_iload_n hx hb d_MD_held_6 rfl (lv_at hl 1 rfl) ?_
  refine lv_iload_n hx hb d_MD_held_7 rfl (lv_at hl 2 rfl) ?_
  refine sx_cVP (As := [.int (nI a), .int (nI b)]) (rest := []) (k0 := 0) C0 (c_MD_out0 ha hb1) q_MD_52 i_MD_out ⟨Nat.le_of_ble_eq_true rfl, Nat.le_of_ble_eq_true rfl⟩ rfl rfl rfl hP hl.1 rfl (Nat.zero_le _) d_MD_held_8 ⟨Nat.zero_le _, Nat.zero_le _⟩ ?_
  refine lv_if_eq (tgt := 21) hx hb d_MD_held_11 (by decide) (fun _ => ?_) (fun z => absurd (rfl) z)
  refine lv_iload_n hx hb d_MD_held_21 rfl (lv_at hl 3 rfl) ?_
  refine lv_if_eq (tgt := 39) hx hb d_MD_held_22 (by decide) (fun z => absurd z (hg)) (fun _ => ?_)
  refine lv_aload_n hx hb d_MD_held_25 rfl (lv_at hl 0 rfl) ?_
  refine sx_get C0 hP 0 rfl rfl 5 (by decide) f_MD_27 rfl rfl d_MD_held_26 ?_
  refine lv_bipush (v := nI 64) hx hb d_MD_held_29 (by decide +kernel) ?_
  refine lv_iload_n hx hb d_MD_held_31 rfl (lv_at hl 1 rfl) ?_
  refine lv_imul hx hb d_MD_held_32 ?_
  refine sx_topi (y := nI (64 * a)) (pk_mul 64 a) ?_
  refine lv_iload_n hx hb d_MD_held_33 rfl (lv_at hl 2 rfl) ?_
  refine lv_iadd hx hb d_MD_held_34 ?_
  refine sx_topi (y := nI (64 * a + b)) (nI_add _ _) ?_
  refine sx_lald (i := (64 * a + b)) (v := F (64 * a + b)) C0 hP 2 rfl rfl (show 64 * a + b < 256 by omega) (by decide) rfl d_MD_held_35 ?_
  refine lv_goto (tgt := 50) hx hb d_MD_held_36 (by decide) ?_
  exact sx_lret C0 hr hlk hS ⟨rfl, hP, hD⟩ d_MD_held_50
theorem c_MD_held0 {a b : Nat} {g : Int32} (ha : a < 4) (hb1 : b < 64) (hg : g = 0) : sx_Ctr l y_MD_held w_MD_held (sx_rm 1 0 0 22) G [.ref (md 0), .int (nI a), .int (nI b), .int g] (wM4 G md fl V F T rf dp) (sx_is G (some (.long (V (64 * a + b)))) (wM4 G md 0 V F T rf dp)) := by
  refine sx_Ctr.of (by decide +kernel) (Nat.le_of_ble_eq_true rfl) ?_
  intro p e s m below meth c9 ls A C0 hr hlk hnm hl hP hD hA hS
  have C0 : sx_C p s m c9 b_MD_held 4 sx_MD G := C0
  have hx := C0.1
  have hb := C0.2.1
  have hl : lv_has ls 4 [(0, .ref (md 0)), (1, .int (nI a)), (2, .int (nI b)), (3, .int g)] := hl
  refine lv_aload_n hx hb d_MD_held_0 rfl (lv_at hl 0 rfl) ?_
  refine lv_iconst (v := 0) hx hb d_MD_held_1 (by decide) ?_
  refine sx_put (ty := .int) C0 hP hD hS 0 rfl rfl 0 (by decide) f_MD_34 rfl rfl (by decide +kernel) rfl rfl (Nat.le_of_ble_eq_true rfl) d_MD_held_2 (fun H locs hP hD hS => ?_)
  have hP : va_P G.1 sx_cls ([(md 0, .inr (2, [.int 0, .ref (md 1), .ref (md 2), .ref (md 3), .ref (md 4), .ref (md 5), .ref (md 6), .int rf, .int (nI dp)])), (md 4, .inl (G.2 1, 256, .inr (.inl V))), (md 5, .inl (G.2 1, 256, .inr (.inl F))), (md 6, .inl (G.2 2, 256, .inl T))]) H := hP
  have hD : va_D A ([(md 0, .inr (2, [.int 0, .ref (md 1), .ref (md 2), .ref (md 3), .ref (md 4), .ref (md 5), .ref (md 6), .int rf, .int (nI dp)])), (md 4, .inl (G.2 1, 256, .inr (.inl V))), (md 5, .inl (G.2 1, 256, .inr (.inl F))), (md 6, .inl (G.2 2, 256, .inl T))]) := hD
  refine lv_aload_n hx hb d_MD_held_5 rfl (lv_at hl 0 rfl) ?_
  refine lv_iload_n hx hb d_MD_held_6 rfl (lv_at hl 1 rfl) ?_
  refine lv_iload_n hx hb d_MD_held_7 rfl (lv_at hl 2 rfl) ?_
  refine sx_cVP (As := [.int (nI a), .int (nI b)]) (rest := []) (k0 := 0) C0 (c_MD_out0 ha hb1) q_MD_52 i_MD_out ⟨Nat.le_of_ble_eq_true rfl, Nat.le_of_ble_eq_true rfl⟩ rfl rfl rfl hP hl.1 rfl (Nat.zero_le _) d_MD_held_8 ⟨Nat.zero_le _, Nat.zero_le _⟩ ?_
  refine lv_if_eq (tgt := 21) hx hb d_MD_held_11 (by decide) (fun _ => ?_) (fun z => absurd (rfl) z)
  refine lv_iload_n hx hb d_MD_held_21 rfl (lv_at hl 3 rfl) ?_
  refine lv_if_eq (tgt := 39) hx hb d_MD_held_22 (by decide) (fun _ => ?_) (fun z => absurd (hg) z)
  refine lv_aload_n hx hb d_MD_held_39 rfl (lv_at hl 0 rfl) ?_
  refine sx_get C0 hP 0 rfl rfl 4 (by decide) f_MD_23 rfl rfl d_MD_held_40 ?_
  refine lv_bipush (v := nI 64) hx hb d_MD_held_43 (by decide +kernel) ?_
  refine lv_iload_n hx hb d_MD_held_45 rfl (lv_at hl 1 rfl) ?_
  refine lv_imul hx hb d_MD_held_46 ?_
  refine sx_topi (y := nI (64 * a)) (pk_mul 64 a) ?_
  refine lv_iload_n hx hb d_MD_held_47 rfl (lv_at hl 2 rfl) ?_
  refine lv_iadd hx hb d_MD_held_48 ?_
  refine sx_topi (y := nI (64 * a + b)) (nI_add _ _) ?_
  refine sx_lald (i := (64 * a + b)) (v := V (64 * a + b)) C0 hP 1 rfl rfl (show 64 * a + b < 256 by omega) (by decide) rfl d_MD_held_49 ?_
  exact sx_lret C0 hr hlk hS ⟨rfl, hP, hD⟩ d_MD_held_50
theorem c_MD_touched1 {o1 p1 : Int32} (ho : p_out o1 p1) : sx_Ctr l y_MD_touched w_MD_touched (sx_rm 1 0 0 22) G [.ref (md 0), .int o1, .int p1] (wM4 G md fl V F T rf dp) (sx_is G (some (.int 0)) (wM4 G md 1 V F T rf dp)) := by
  refine sx_Ctr.of (by decide +kernel) (Nat.le_of_ble_eq_true rfl) ?_
  intro p e s m below meth c9 ls A C0 hr hlk hnm hl hP hD hA hS
  have C0 : sx_C p s m c9 b_MD_touched 3 sx_MD G := C0
  have hx := C0.1
  have hb := C0.2.1
  have hl : lv_has ls 3 [(0, .ref (md 0)), (1, .int o1), (2, .int p1)] := hl
  refine lv_aload_n hx hb d_MD_touched_0 rfl (lv_at hl 0 rfl) ?_
  refine lv_iconst (v := 0) hx hb d_MD_touched_1 (by decide) ?_
  refine sx_put (ty := .int) C0 hP hD hS 0 rfl rfl 0 (by decide) f_MD_34 rfl rfl (by decide +kernel) rfl rfl (Nat.le_of_ble_eq_true rfl) d_MD_touched_2 (fun H locs hP hD hS => ?_)
  have hP : va_P G.1 sx_cls ([(md 0, .inr (2, [.int 0, .ref (md 1), .ref (md 2), .ref (md 3), .ref (md 4), .ref (md 5), .ref (md 6), .int rf, .int (nI dp)])), (md 4, .inl (G.2 1, 256, .inr (.inl V))), (md 5, .inl (G.2 1, 256, .inr (.inl F))), (md 6, .inl (G.2 2, 256, .inl T))]) H := hP
  have hD : va_D A ([(md 0, .inr (2, [.int 0, .ref (md 1), .ref (md 2), .ref (md 3), .ref (md 4), .ref (md 5), .ref (md 6), .int rf, .int (nI dp)])), (md 4, .inl (G.2 1, 256, .inr (.inl V))), (md 5, .inl (G.2 1, 256, .inr (.inl F))), (md 6, .inl (G.2 2, 256, .inl T))]) := hD
  refine lv_aload_n hx hb d_MD_touched_5 rfl (lv_at hl 0 rfl) ?_
  refine lv_iload_n hx hb d_MD_touched_6 rfl (lv_at hl 1 rfl) ?_
  refine lv_iload_n hx hb d_MD_touched_7 rfl (lv_at hl 2 rfl) ?_
  refine sx_cVP (As := [.int o1, .int p1]) (rest := []) (k0 := 0) C0 (c_MD_out1 ho) q_MD_52 i_MD_out ⟨Nat.le_of_ble_eq_true rfl, Nat.le_of_ble_eq_true rfl⟩ rfl rfl rfl hP hl.1 rfl (Nat.zero_le _) d_MD_touched_8 ⟨Nat.zero_le _, Nat.zero_le _⟩ ?_
  refine lv_if_eq (tgt := 30) hx hb d_MD_touched_11 (by decide) (fun z => absurd z ((by decide : ¬ (1 : Int32) = 0))) (fun _ => ?_)
  refine lv_aload_n hx hb d_MD_touched_14 rfl (lv_at hl 0 rfl) ?_
  refine lv_iconst (v := 1) hx hb d_MD_touched_15 (by decide) ?_
  refine sx_cV (As := [.int 1]) (rest := []) (wa := []) (wb := []) (k0 := 0) C0 (c_MD_fail (fl := 0) (V := V) (F := F) (T := T) (rf := rf) (dp := dp)) q_MD_48 i_MD_fail ⟨Nat.le_of_ble_eq_true rfl, Nat.le_of_ble_eq_true rfl⟩ rfl rfl rfl hP hD hS hA hl.1 rfl (Nat.zero_le _) d_MD_touched_16 ⟨Nat.le_of_ble_eq_true rfl, Nat.le_of_ble_eq_true rfl⟩ (fun r H locs hq hj hS => ?_)
  obtain ⟨rfl, hP1, hD1⟩ := hq
  obtain ⟨hP, hD⟩ := hj _ hP1 hD1
  have hP : va_P G.1 sx_cls ([(md 0, .inr (2, [.int 1, .ref (md 1), .ref (md 2), .ref (md 3), .ref (md 4), .ref (md 5), .ref (md 6), .int rf, .int (nI dp)])), (md 4, .inl (G.2 1, 256, .inr (.inl V))), (md 5, .inl (G.2 1, 256, .inr (.inl F))), (md 6, .inl (G.2 2, 256, .inl T))]) H := hP
  have hD : va_D A ([(md 0, .inr (2, [.int 1, .ref (md 1), .ref (md 2), .ref (md 3), .ref (md 4), .ref (md 5), .ref (md 6), .int rf, .int (nI dp)])), (md 4, .inl (G.2 1, 256, .inr (.inl V))), (md 5, .inl (G.2 1, 256, .inr (.inl F))), (md 6, .inl (G.2 2, 256, .inl T))]) := hD
  refine lv_if_le (tgt := 26) hx hb d_MD_touched_19 (by decide) (fun _ => ?_) (fun z => absurd ((by decide : (0 : Int32) ≤ 0)) z)
  refine lv_iconst (v := 0) hx hb d_MD_touched_26 (by decide) ?_
  refine lv_goto (tgt := 41) hx hb d_MD_touched_27 (by decide) ?_
  exact sx_zret C0 hr rfl hlk hS ⟨rfl, hP, hD⟩ d_MD_touched_41
theorem c_MD_touched0 {a b : Nat} (ha : a < 4) (hb1 : b < 64) (hz : narrow .boolean (.int (T (64 * a + b))) = .int (T (64 * a + b))) : sx_Ctr l y_MD_touched w_MD_touched (sx_rm 1 0 0 22) G [.ref (md 0), .int (nI a), .int (nI b)] (wM4 G md fl V F T rf dp) (sx_is G (some (.int (T (64 * a + b)))) (wM4 G md 0 V F T rf dp)) := by
  refine sx_Ctr.of (by decide +kernel) (Nat.le_of_ble_eq_true rfl) ?_
  intro p e s m below meth c9 ls A C0 hr hlk hnm hl hP hD hA hS
  have C0 : sx_C p s m c9 b_MD_touched 3 sx_MD G := C0
  have hx := C0.1
  have hb := C0.2.1
  have hl : lv_has ls 3 [(0, .ref (md 0)), (1, .int (nI a)), (2, .int (nI b))] := hl
  refine lv_aload_n hx hb d_MD_touched_0 rfl (lv_at hl 0 rfl) ?_
  refine lv_iconst (v := 0) hx hb d_MD_touched_1 (by decide) ?_
  refine sx_put (ty := .int) C0 hP hD hS 0 rfl rfl 0 (by decide) f_MD_34 rfl rfl (by decide +kernel) rfl rfl (Nat.le_of_ble_eq_true rfl) d_MD_touched_2 (fun H locs hP hD hS => ?_)
  have hP : va_P G.1 sx_cls ([(md 0, .inr (2, [.int 0, .ref (md 1), .ref (md 2), .ref (md 3), .ref (md 4), .ref (md 5), .ref (md 6), .int rf, .int (nI dp)])), (md 4, .inl (G.2 1, 256, .inr (.inl V))), (md 5, .inl (G.2 1, 256, .inr (.inl F))), (md 6, .inl (G.2 2, 256, .inl T))]) H := hP
  have hD : va_D A ([(md 0, .inr (2, [.int 0, .ref (md 1), .ref (md 2), .ref (md 3), .ref (md 4), .ref (md 5), .ref (md 6), .int rf, .int (nI dp)])), (md 4, .inl (G.2 1, 256, .inr (.inl V))), (md 5, .inl (G.2 1, 256, .inr (.inl F))), (md 6, .inl (G.2 2, 256, .inl T))]) := hD
  refine lv_aload_n hx hb d_MD_touched_5 rfl (lv_at hl 0 rfl) ?_
  refine lv_iload_n hx hb d_MD_touched_6 rfl (lv_at hl 1 rfl) ?_
  refine lv_iload_n hx hb d_MD_touched_7 rfl (lv_at hl 2 rfl) ?_
  refine sx_cVP (As := [.int (nI a), .int (nI b)]) (rest := []) (k0 := 0) C0 (c_MD_out0 ha hb1) q_MD_52 i_MD_out ⟨Nat.le_of_ble_eq_true rfl, Nat.le_of_ble_eq_true rfl⟩ rfl rfl rfl hP hl.1 rfl (Nat.zero_le _) d_MD_touched_8 ⟨Nat.zero_le _, Nat.zero_le _⟩ ?_
  refine lv_if_eq (tgt := 30) hx hb d_MD_touched_11 (by decide) (fun _ => ?_) (fun z => absurd (rfl) z)
  refine lv_aload_n hx hb d_MD_touched_30 rfl (lv_at hl 0 rfl) ?_
  refine sx_get C0 hP 0 rfl rfl 6 (by decide) f_MD_30 rfl rfl d_MD_touched_31 ?_
  refine lv_bipush (v := nI 64) hx hb d_MD_touched_34 (by decide +kernel) ?_
  refine lv_iload_n hx hb d_MD_touched_36 rfl (lv_at hl 1 rfl) ?_
  refine lv_imul hx hb d_MD_touched_37 ?_
  refine sx_topi (y := nI (64 * a)) (pk_mul 64 a) ?_
  refine lv_iload_n hx hb d_MD_touched_38 rfl (lv_at hl 2 rfl) ?_
  refine lv_iadd hx hb d_MD_touched_39 ?_
  refine sx_topi (y := nI (64 * a + b)) (nI_add _ _) ?_
  refine sx_zald (i := (64 * a + b)) (v := T (64 * a + b)) C0 hP 3 rfl rfl (show 64 * a + b < 256 by omega) (by decide) rfl d_MD_touched_40 ?_
  exact sx_zret C0 hr hz hlk hS ⟨rfl, hP, hD⟩ d_MD_touched_41
/-- how many of the first places are touched -/
def p_cnT (T : Nat → Int32) : Nat → Nat
  | 0 => 0
  | i + 1 => p_cnT T i + (if T i = 0 then 0 else 1)
theorem c_MD_count9 {w1 : Int32} (ho : w1 < 0 ∨ 3 < w1) : sx_Ctr l y_MD_count w_MD_count (sx_rm 1 0 0 22) G [.ref (md 0), .int w1] (wM4 G md fl V F T rf dp) (sx_is G (some (.int 0)) (wM4 G md 1 V F T rf dp)) := by
  refine sx_Ctr.of (by decide +kernel) (Nat.le_of_ble_eq_true rfl) ?_
  intro p e s m below meth c9 ls A C0 hr hlk hnm hl hP hD hA hS
  have C0 : sx_C p s m c9 b_MD_count 4 sx_MD G := C0
  have hx := C0.1
  have hb := C0.2.1
  have hl : lv_has ls 4 [(0, .ref (md 0)), (1, .int w1)] := hl
  refine lv_aload_n hx hb d_MD_count_0 rfl (lv_at hl 0 rfl) ?_
  refine lv_iconst (v := 0) hx hb d_MD_count_1 (by decide) ?_
  refine sx_put (ty := .int) C0 hP hD hS 0 rfl rfl 0 (by decide) f_MD_34 rfl rfl (by decide +kernel) rfl rfl (Nat.le_of_ble_eq_true rfl) d_MD_count_2 (fun H locs hP hD hS => ?_)
  have hP : va_P G.1 sx_cls ([(md 0, .inr (2, [.int 0, .ref (md 1), .ref (md 2), .ref (md 3), .ref (md 4), .ref (md 5), .ref (md 6), .int rf, .int (nI dp)])), (md 4, .inl (G.2 1, 256, .inr (.inl V))), (md 5, .inl (G.2 1, 256, .inr (.inl F))), (md 6, .inl (G.2 2, 256, .inl T))]) H := hP
  have hD : va_D A ([(md 0, .inr (2, [.int 0, .ref (md 1), .ref (md 2), .ref (md 3), .ref (md 4), .ref (md 5), .ref (md 6), .int rf, .int (nI dp)])), (md 4, .inl (G.2 1, 256, .inr (.inl V))), (md 5, .inl (G.2 1, 256, .inr (.inl F))), (md 6, .inl (G.2 2, 256, .inl T))]) := hD
  have bad : W p l e (sx_rm 1 0 0 22) s m ([.ref (md 0), .int w1] : List Value).toArray below meth c9 H locs 0 0 (MQ below (sx_Q (sx_is G (some (.int 0)) (wM4 G md 1 V F T rf dp)) A) ([.ref (md 0), .int w1] : List Value).toArray s 0 0 A) (F0 m 14 ls []) := by
    refine lv_aload_n hx hb d_MD_count_14 rfl (lv_at hl 0 rfl) ?_
    refine lv_iconst (v := 1) hx hb d_MD_count_15 (by decide) ?_
    refine sx_cV (As := [.int 1]) (rest := []) (wa := []) (wb := []) (k0 := 0) C0 (c_MD_fail (fl := 0) (V := V) (F := F) (T := T) (rf := rf) (dp := dp)) q_MD_48 i_MD_fail ⟨Nat.le_of_ble_eq_true rfl, Nat.le_of_ble_eq_true rfl⟩ rfl rfl rfl hP hD hS hA hl.1 rfl (Nat.zero_le _) d_MD_count_16 ⟨Nat.le_of_ble_eq_true rfl, Nat.le_of_ble_eq_true rfl⟩ (fun r H locs hq hj hS => ?_)
    obtain ⟨rfl, hP1, hD1⟩ := hq
    obtain ⟨hP, hD⟩ := hj _ hP1 hD1
    have hP : va_P G.1 sx_cls ([(md 0, .inr (2, [.int 1, .ref (md 1), .ref (md 2), .ref (md 3), .ref (md 4), .ref (md 5), .ref (md 6), .int rf, .int (nI dp)])), (md 4, .inl (G.2 1, 256, .inr (.inl V))), (md 5, .inl (G.2 1, 256, .inr (.inl F))), (md 6, .inl (G.2 2, 256, .inl T))]) H := hP
    have hD : va_D A ([(md 0, .inr (2, [.int 1, .ref (md 1), .ref (md 2), .ref (md 3), .ref (md 4), .ref (md 5), .ref (md 6), .int rf, .int (nI dp)])), (md 4, .inl (G.2 1, 256, .inr (.inl V))), (md 5, .inl (G.2 1, 256, .inr (.inl F))), (md 6, .inl (G.2 2, 256, .inl T))]) := hD
    exact sx_iret C0 hr hlk hS ⟨rfl, hP, hD⟩ d_MD_count_19
  refine lv_iload_n hx hb d_MD_count_5 rfl (lv_at hl 1 rfl) ?_
  refine lv_if_lt (tgt := 14) hx hb d_MD_count_6 (by decide) (fun h1 => ?_) (fun h1 => ?_)
  · exact bad
  · skip
    refine lv_iload_n hx hb d_MD_count_9 rfl (lv_at hl 1 rfl) ?_
    refine lv_iconst (v := 3) hx hb d_MD_count_10 (by decide) ?_
    refine lv_icmp_le (tgt := 20) hx hb d_MD_count_11 (by decide) (fun h2 => ?_) (fun h2 => ?_)
    · exact absurd h2 (by
        rcases ho with h | h
        · exact absurd h h1
        · exact Int32.not_le.mpr h)
    · exact bad
theorem c_MD_count0 : sx_Ctr l y_MD_count w_MD_count (sx_rm 1 0 0 22) G [.ref (md 0), .int (nI 0)] (wM4 G md fl V F T rf dp) (sx_is G (some (.int (rf))) (wM4 G md 0 V F T rf dp)) := by
  refine sx_Ctr.of (by decide +kernel) (Nat.le_of_ble_eq_true rfl) ?_
  intro p e s m below meth c9 ls A C0 hr hlk hnm hl hP hD hA hS
  have C0 : sx_C p s m c9 b_MD_count 4 sx_MD G := C0
  have hx := C0.1
  have hb := C0.2.1
  have hl : lv_has ls 4 [(0, .ref (md 0)), (1, .int (nI 0))] := hl
  refine lv_aload_n hx hb d_MD_count_0 rfl (lv_at hl 0 rfl) ?_
  refine lv_iconst (v := 0) hx hb d_MD_count_1 (by decide) ?_
  refine sx_put (ty := .int) C0 hP hD hS 0 rfl rfl 0 (by decide) f_MD_34 rfl rfl (by decide +kernel) rfl rfl (Nat.le_of_ble_eq_true rfl) d_MD_count_2 (fun H locs hP hD hS => ?_)
  have hP : va_P G.1 sx_cls ([(md 0, .inr (2, [.int 0, .ref (md 1), .ref (md 2), .ref (md 3), .ref (md 4), .ref (md 5), .ref (md 6), .int rf, .int (nI dp)])), (md 4, .inl (G.2 1, 256, .inr (.inl V))), (md 5, .inl (G.2 1, 256, .inr (.inl F))), (md 6, .inl (G.2 2, 256, .inl T))]) H := hP
  have hD : va_D A ([(md 0, .inr (2, [.int 0, .ref (md 1), .ref (md 2), .ref (md 3), .ref (md 4), .ref (md 5), .ref (md 6), .int rf, .int (nI dp)])), (md 4, .inl (G.2 1, 256, .inr (.inl V))), (md 5, .inl (G.2 1, 256, .inr (.inl F))), (md 6, .inl (G.2 2, 256, .inl T))]) := hD
  have loop : ∀ (k i : Nat) (ls : Array Slot), i + k = 256 → lv_has ls 4 [(3, .int (nI i)), (2, .int (nI (p_cnT T i))), (0, .ref (md 0)), (1, .int (nI 0))] → W p l e (sx_rm 1 0 0 22) s m ([.ref (md 0), .int (nI 0)] : List Value).toArray below meth c9 H locs 0 0 (MQ below (sx_Q (sx_is G (some (.int (rf))) (wM4 G md 0 V F T rf dp)) A) ([.ref (md 0), .int (nI 0)] : List Value).toArray s 0 0 A) (F0 m 24 ls []) := by
    intro k
    induction k with
    | zero =>
      intro i ls hi hl
      have e1 : i = 256 := hi
      subst e1
      refine lv_iload_n hx hb d_MD_count_24 rfl (lv_at hl 0 rfl) ?_
      refine lv_sipush (v := nI 256) hx hb d_MD_count_25 (by decide +kernel) ?_
      refine lv_icmp_ge (tgt := 54) hx hb d_MD_count_28 (by decide) (fun _ => ?_) (fun z => absurd (Int32.le_refl _) z)
      refine lv_iload_n hx hb d_MD_count_54 rfl (lv_at hl 3 rfl) ?_
      refine lv_if_ne (tgt := 65) hx hb d_MD_count_55 (by decide) (fun z => absurd (nI_0) z) (fun _ => ?_)
      refine lv_aload_n hx hb d_MD_count_58 rfl (lv_at hl 2 rfl) ?_
      refine sx_get C0 hP 0 rfl rfl 7 (by decide) f_MD_38 rfl rfl d_MD_count_59 ?_
      refine lv_goto (tgt := 90) hx hb d_MD_count_62 (by decide) ?_
      exact sx_iret C0 hr hlk hS ⟨rfl, hP, hD⟩ d_MD_count_90
    | succ k ih =>
      intro i ls hi hl
      refine lv_iload_n hx hb d_MD_count_24 rfl (lv_at hl 0 rfl) ?_
      refine lv_sipush (v := nI 256) hx hb d_MD_count_25 (by decide +kernel) ?_
      refine lv_icmp_ge (tgt := 54) hx hb d_MD_count_28 (by decide) (fun z => absurd z (nI_ge (show i < 256 by omega) (by decide))) (fun _ => ?_)
      refine lv_iload_n hx hb d_MD_count_31 rfl (lv_at hl 1 rfl) ?_
      refine lv_aload_n hx hb d_MD_count_32 rfl (lv_at hl 2 rfl) ?_
      refine sx_get C0 hP 0 rfl rfl 6 (by decide) f_MD_30 rfl rfl d_MD_count_33 ?_
      refine lv_iload_n hx hb d_MD_count_36 rfl (lv_at hl 0 rfl) ?_
      refine sx_zald (i := i) (v := T i) C0 hP 3 rfl rfl (show i < 256 by omega) (by decide) rfl d_MD_count_37 ?_
      refine lv_if_eq (tgt := 45) hx hb d_MD_count_38 (by decide) (fun h1 => ?_) (fun h1 => ?_)
      · have e2 : p_cnT T (i + 1) = p_cnT T i := by show p_cnT T i + _ = _; rw [if_pos h1, Nat.add_zero]
        refine lv_iconst (v := nI 0) hx hb d_MD_count_45 (by decide +kernel) ?_
        refine lv_iadd hx hb d_MD_count_46 ?_
        refine sx_topi (y := nI (p_cnT T i)) (by rw [nI_add, Nat.add_zero]) ?_
        refine lv_istore_n hx hb d_MD_count_47 rfl hl (by decide) rfl (fun ls hl => ?_)
        have hl : lv_has ls 4 [(2, .int (nI (p_cnT T i))), (3, .int (nI i)), (0, .ref (md 0)), (1, .int (nI 0))] := hl
        refine lv_iinc (k := 1) (v := nI (i + 1)) hx hb d_MD_count_48 hl rfl (nI_1 i) (by decide) rfl (fun ls hl => ?_)
        have hl : lv_has ls 4 [(3, .int (nI (i + 1))), (2, .int (nI (p_cnT T i))), (0, .ref (md 0)), (1, .int (nI 0))] := hl
        refine lv_goto (tgt := 24) hx hb d_MD_count_51 (by decide) ?_
        exact ih (i + 1) ls (by omega) (by rw [e2]; exact hl)
      · have e2 : p_cnT T (i + 1) = p_cnT T i + 1 := by show p_cnT T i + _ = _; rw [if_neg h1]
        refine lv_iconst (v := nI 1) hx hb d_MD_count_41 (by decide +kernel) ?_
        refine lv_goto (tgt := 46) hx hb d_MD_count_42 (by decide) ?_
        refine lv_iadd hx hb d_MD_count_46 ?_
        refine sx_topi (y := nI (p_cnT T i + 1)) (nI_add _ _) ?_
        refine lv_istore_n hx hb d_MD_count_47 rfl hl (by decide) rfl (fun ls hl => ?_)
        have hl : lv_has ls 4 [(2, .int (nI (p_cnT T i + 1))), (3, .int (nI i)), (0, .ref (md 0)), (1, .int (nI 0))] := hl
        refine lv_iinc (k := 1) (v := nI (i + 1)) hx hb d_MD_count_48 hl rfl (nI_1 i) (by decide) rfl (fun ls hl => ?_)
        have hl : lv_has ls 4 [(3, .int (nI (i + 1))), (2, .int (nI (p_cnT T i + 1))), (0, .ref (md 0)), (1, .int (nI 0))] := hl
        refine lv_goto (tgt := 24) hx hb d_MD_count_51 (by decide) ?_
        exact ih (i + 1) ls (by omega) (by rw [e2]; exact hl)
  refine lv_iload_n hx hb d_MD_count_5 rfl (lv_at hl 1 rfl) ?_
  refine lv_if_lt (tgt := 14) hx hb d_MD_count_6 (by decide) (fun z => absurd z (nI_pos (by decide))) (fun _ => ?_)
  refine lv_iload_n hx hb d_MD_count_9 rfl (lv_at hl 1 rfl) ?_
  refine lv_iconst (v := nI 3) hx hb d_MD_count_10 (by decide +kernel) ?_
  refine lv_icmp_le (tgt := 20) hx hb d_MD_count_11 (by decide) (fun _ => ?_) (fun z => absurd (nI_le (by decide) (by decide)) z)
  refine lv_iconst (v := nI 0) hx hb d_MD_count_20 (by decide +kernel) ?_
  refine lv_istore_n hx hb d_MD_count_21 rfl hl (by decide) rfl (fun ls hl => ?_)
  have hl : lv_has ls 4 [(2, .int (nI 0)), (0, .ref (md 0)), (1, .int (nI 0))] := hl
  refine lv_iconst (v := nI 0) hx hb d_MD_count_22 (by decide +kernel) ?_
  refine lv_istore_n hx hb d_MD_count_23 rfl hl (by decide) rfl (fun ls hl => ?_)
  have hl : lv_has ls 4 [(3, .int (nI 0)), (2, .int (nI 0)), (0, .ref (md 0)), (1, .int (nI 0))] := hl
  exact loop 256 0 ls rfl hl
theorem c_MD_count1 : sx_Ctr l y_MD_count w_MD_count (sx_rm 1 0 0 22) G [.ref (md 0), .int (nI 1)] (wM4 G md fl V F T rf dp) (sx_is G (some (.int (nI (p_cnT T 256)))) (wM4 G md 0 V F T rf dp)) := by
  refine sx_Ctr.of (by decide +kernel) (Nat.le_of_ble_eq_true rfl) ?_
  intro p e s m below meth c9 ls A C0 hr hlk hnm hl hP hD hA hS
  have C0 : sx_C p s m c9 b_MD_count 4 sx_MD G := C0
  have hx := C0.1
  have hb := C0.2.1
  have hl : lv_has ls 4 [(0, .ref (md 0)), (1, .int (nI 1))] := hl
  refine lv_aload_n hx hb d_MD_count_0 rfl (lv_at hl 0 rfl) ?_
  refine lv_iconst (v := 0) hx hb d_MD_count_1 (by decide) ?_
  refine sx_put (ty := .int) C0 hP hD hS 0 rfl rfl 0 (by decide) f_MD_34 rfl rfl (by decide +kernel) rfl rfl (Nat.le_of_ble_eq_true rfl) d_MD_count_2 (fun H locs hP hD hS => ?_)
  have hP : va_P G.1 sx_cls ([(md 0, .inr (2, [.int 0, .ref (md 1), .ref (md 2), .ref (md 3), .ref (md 4), .ref (md 5), .ref (md 6), .int rf, .int (nI dp)])), (md 4, .inl (G.2 1, 256, .inr (.inl V))), (md 5, .inl (G.2 1, 256, .inr (.inl F))), (md 6, .inl (G.2 2, 256, .inl T))]) H := hP
  have hD : va_D A ([(md 0, .inr (2, [.int 0, .ref (md 1), .ref (md 2), .ref (md 3), .ref (md 4), .ref (md 5), .ref (md 6), .int rf, .int (nI dp)])), (md 4, .inl (G.2 1, 256, .inr (.inl V))), (md 5, .inl (G.2 1, 256, .inr (.inl F))), (md 6, .inl (G.2 2, 256, .inl T))]) := hD
  have loop : ∀ (k i : Nat) (ls : Array Slot), i + k = 256 → lv_has ls 4 [(3, .int (nI i)), (2, .int (nI (p_cnT T i))), (0, .ref (md 0)), (1, .int (nI 1))] → W p l e (sx_rm 1 0 0 22) s m ([.ref (md 0), .int (nI 1)] : List Value).toArray below meth c9 H locs 0 0 (MQ below (sx_Q (sx_is G (some (.int (nI (p_cnT T 256)))) (wM4 G md 0 V F T rf dp)) A) ([.ref (md 0), .int (nI 1)] : List Value).toArray s 0 0 A) (F0 m 24 ls []) := by
    intro k
    induction k with
    | zero =>
      intro i ls hi hl
      have e1 : i = 256 := hi
      subst e1
      refine lv_iload_n hx hb d_MD_count_24 rfl (lv_at hl 0 rfl) ?_
      refine lv_sipush (v := nI 256) hx hb d_MD_count_25 (by decide +kernel) ?_
      refine lv_icmp_ge (tgt := 54) hx hb d_MD_count_28 (by decide) (fun _ => ?_) (fun z => absurd (Int32.le_refl _) z)
      refine lv_iload_n hx hb d_MD_count_54 rfl (lv_at hl 3 rfl) ?_
      refine lv_if_ne (tgt := 65) hx hb d_MD_count_55 (by decide) (fun _ => ?_) (fun z => absurd z (nI_ne0 (by decide) (by decide)))
      refine lv_iload_n hx hb d_MD_count_65 rfl (lv_at hl 3 rfl) ?_
      refine lv_iconst (v := nI 1) hx hb d_MD_count_66 (by decide +kernel) ?_
      refine lv_icmp_ne (tgt := 74) hx hb d_MD_count_67 (by decide) (fun z => absurd (rfl) z) (fun _ => ?_)
      refine lv_iload_n hx hb d_MD_count_70 rfl (lv_at hl 1 rfl) ?_
      refine lv_goto (tgt := 90) hx hb d_MD_count_71 (by decide) ?_
      exact sx_iret C0 hr hlk hS ⟨rfl, hP, hD⟩ d_MD_count_90
    | succ k ih =>
      intro i ls hi hl
      refine lv_iload_n hx hb d_MD_count_24 rfl (lv_at hl 0 rfl) ?_
      refine lv_sipush (v := nI 256) hx hb d_MD_count_25 (by decide +kernel) ?_
      refine lv_icmp_ge (tgt := 54) hx hb d_MD_count_28 (by decide) (fun z => absurd z (nI_ge (show i < 256 by omega) (by decide))) (fun _ => ?_)
      refine lv_iload_n hx hb d_MD_count_31 rfl (lv_at hl 1 rfl) ?_
      refine lv_aload_n hx hb d_MD_count_32 rfl (lv_at hl 2 rfl) ?_
      refine sx_get C0 hP 0 rfl rfl 6 (by decide) f_MD_30 rfl rfl d_MD_count_33 ?_
      refine lv_iload_n hx hb d_MD_count_36 rfl (lv_at hl 0 rfl) ?_
      refine sx_zald (i := i) (v := T i) C0 hP 3 rfl rfl (show i < 256 by omega) (by decide) rfl d_MD_count_37 ?_
      refine lv_if_eq (tgt := 45) hx hb d_MD_count_38 (by decide) (fun h1 => ?_) (fun h1 => ?_)
      · have e2 : p_cnT T (i + 1) = p_cnT T i := by show p_cnT T i + _ = _; rw [if_pos h1, Nat.add_zero]
        refine lv_iconst (v := nI 0) hx hb d_MD_count_45 (by decide +kernel) ?_
        refine lv_iadd hx hb d_MD_count_46 ?_
        refine sx_topi (y := nI (p_cnT T i)) (by rw [nI_add, Nat.add_zero]) ?_
        refine lv_istore_n hx hb d_MD_count_47 rfl hl (by decide) rfl (fun ls hl => ?_)
        have hl : lv_has ls 4 [(2, .int (nI (p_cnT T i))), (3, .int (nI i)), (0, .ref (md 0)), (1, .int (nI 1))] := hl
        refine lv_iinc (k := 1) (v := nI (i + 1)) hx hb d_MD_count_48 hl rfl (nI_1 i) (by decide) rfl (fun ls hl => ?_)
        have hl : lv_has ls 4 [(3, .int (nI (i + 1))), (2, .int (nI (p_cnT T i))), (0, .ref (md 0)), (1, .int (nI 1))] := hl
        refine lv_goto (tgt := 24) hx hb d_MD_count_51 (by decide) ?_
        exact ih (i + 1) ls (by omega) (by rw [e2]; exact hl)
      · have e2 : p_cnT T (i + 1) = p_cnT T i + 1 := by show p_cnT T i + _ = _; rw [if_neg h1]
        refine lv_iconst (v := nI 1) hx hb d_MD_count_41 (by decide +kernel) ?_
        refine lv_goto (tgt := 46) hx hb d_MD_count_42 (by decide) ?_
        refine lv_iadd hx hb d_MD_count_46 ?_
        refine sx_topi (y := nI (p_cnT T i + 1)) (nI_add _ _) ?_
        refine lv_istore_n hx hb d_MD_count_47 rfl hl (by decide) rfl (fun ls hl => ?_)
        have hl : lv_has ls 4 [(2, .int (nI (p_cnT T i + 1))), (3, .int (nI i)), (0, .ref (md 0)), (1, .int (nI 1))] := hl
        refine lv_iinc (k := 1) (v := nI (i + 1)) hx hb d_MD_count_48 hl rfl (nI_1 i) (by decide) rfl (fun ls hl => ?_)
        have hl : lv_has ls 4 [(3, .int (nI (i + 1))), (2, .int (nI (p_cnT T i + 1))), (0, .ref (md 0)), (1, .int (nI 1))] := hl
        refine lv_goto (tgt := 24) hx hb d_MD_count_51 (by decide) ?_
        exact ih (i + 1) ls (by omega) (by rw [e2]; exact hl)
  refine lv_iload_n hx hb d_MD_count_5 rfl (lv_at hl 1 rfl) ?_
  refine lv_if_lt (tgt := 14) hx hb d_MD_count_6 (by decide) (fun z => absurd z (nI_pos (by decide))) (fun _ => ?_)
  refine lv_iload_n hx hb d_MD_count_9 rfl (lv_at hl 1 rfl) ?_
  refine lv_iconst (v := nI 3) hx hb d_MD_count_10 (by decide +kernel) ?_
  refine lv_icmp_le (tgt := 20) hx hb d_MD_count_11 (by decide) (fun _ => ?_) (fun z => absurd (nI_le (by decide) (by decide)) z)
  refine lv_iconst (v := nI 0) hx hb d_MD_count_20 (by decide +kernel) ?_
  refine lv_istore_n hx hb d_MD_count_21 rfl hl (by decide) rfl (fun ls hl => ?_)
  have hl : lv_has ls 4 [(2, .int (nI 0)), (0, .ref (md 0)), (1, .int (nI 1))] := hl
  refine lv_iconst (v := nI 0) hx hb d_MD_count_22 (by decide +kernel) ?_
  refine lv_istore_n hx hb d_MD_count_23 rfl hl (by decide) rfl (fun ls hl => ?_)
  have hl : lv_has ls 4 [(3, .int (nI 0)), (2, .int (nI 0)), (0, .ref (md 0)), (1, .int (nI 1))] := hl
  exact loop 256 0 ls rfl hl
theorem c_MD_count2 : sx_Ctr l y_MD_count w_MD_count (sx_rm 1 0 0 22) G [.ref (md 0), .int (nI 2)] (wM4 G md fl V F T rf dp) (sx_is G (some (.int (nI dp))) (wM4 G md 0 V F T rf dp)) := by
  refine sx_Ctr.of (by decide +kernel) (Nat.le_of_ble_eq_true rfl) ?_
  intro p e s m below meth c9 ls A C0 hr hlk hnm hl hP hD hA hS
  have C0 : sx_C p s m c9 b_MD_count 4 sx_MD G := C0
  have hx := C0.1
  have hb := C0.2.1
  have hl : lv_has ls 4 [(0, .ref (md 0)), (1, .int (nI 2))] := hl
  refine lv_aload_n hx hb d_MD_count_0 rfl (lv_at hl 0 rfl) ?_
  refine lv_iconst (v := 0) hx hb d_MD_count_1 (by decide) ?_
  refine sx_put (ty := .int) C0 hP hD hS 0 rfl rfl 0 (by decide) f_MD_34 rfl rfl (by decide +kernel) rfl rfl (Nat.le_of_ble_eq_true rfl) d_MD_count_2 (fun H locs hP hD hS => ?_)
  have hP : va_P G.1 sx_cls ([(md 0, .inr (2, [.int 0, .ref (md 1), .ref (md 2), .ref (md 3), .ref (md 4), .ref (md 5), .ref (md 6), .int rf, .int (nI dp)])), (md 4, .inl (G.2 1, 256, .inr (.inl V))), (md 5, .inl (G.2 1, 256, .inr (.inl F))), (md 6, .inl (G.2 2, 256, .inl T))]) H := hP
  have hD : va_D A ([(md 0, .inr (2, [.int 0, .ref (md 1), .ref (md 2), .ref (md 3), .ref (md 4), .ref (md 5), .ref (md 6), .int rf, .int (nI dp)])), (md 4, .inl (G.2 1, 256, .inr (.inl V))), (md 5, .inl (G.2 1, 256, .inr (.inl F))), (md 6, .inl (G.2 2, 256, .inl T))]) := hD
  have loop : ∀ (k i : Nat) (ls : Array Slot), i + k = 256 → lv_has ls 4 [(3, .int (nI i)), (2, .int (nI (p_cnT T i))), (0, .ref (md 0)), (1, .int (nI 2))] → W p l e (sx_rm 1 0 0 22) s m ([.ref (md 0), .int (nI 2)] : List Value).toArray below meth c9 H locs 0 0 (MQ below (sx_Q (sx_is G (some (.int (nI dp))) (wM4 G md 0 V F T rf dp)) A) ([.ref (md 0), .int (nI 2)] : List Value).toArray s 0 0 A) (F0 m 24 ls []) := by
    intro k
    induction k with
    | zero =>
      intro i ls hi hl
      have e1 : i = 256 := hi
      subst e1
      refine lv_iload_n hx hb d_MD_count_24 rfl (lv_at hl 0 rfl) ?_
      refine lv_sipush (v := nI 256) hx hb d_MD_count_25 (by decide +kernel) ?_
      refine lv_icmp_ge (tgt := 54) hx hb d_MD_count_28 (by decide) (fun _ => ?_) (fun z => absurd (Int32.le_refl _) z)
      refine lv_iload_n hx hb d_MD_count_54 rfl (lv_at hl 3 rfl) ?_
      refine lv_if_ne (tgt := 65) hx hb d_MD_count_55 (by decide) (fun _ => ?_) (fun z => absurd z (nI_ne0 (by decide) (by decide)))
      refine lv_iload_n hx hb d_MD_count_65 rfl (lv_at hl 3 rfl) ?_
      refine lv_iconst (v := nI 1) hx hb d_MD_count_66 (by decide +kernel) ?_
      refine lv_icmp_ne (tgt := 74) hx hb d_MD_count_67 (by decide) (fun _ => ?_) (fun z => absurd z ((by decide +kernel : ¬ nI 2 = nI 1)))
      refine lv_iload_n hx hb d_MD_count_74 rfl (lv_at hl 3 rfl) ?_
      refine lv_iconst (v := nI 2) hx hb d_MD_count_75 (by decide +kernel) ?_
      refine lv_icmp_ne (tgt := 86) hx hb d_MD_count_76 (by decide) (fun z => absurd (rfl) z) (fun _ => ?_)
      refine lv_aload_n hx hb d_MD_count_79 rfl (lv_at hl 2 rfl) ?_
      refine sx_get C0 hP 0 rfl rfl 8 (by decide) f_MD_41 rfl rfl d_MD_count_80 ?_
      refine lv_goto (tgt := 90) hx hb d_MD_count_83 (by decide) ?_
      exact sx_iret C0 hr hlk hS ⟨rfl, hP, hD⟩ d_MD_count_90
    | succ k ih =>
      intro i ls hi hl
      refine lv_iload_n hx hb d_MD_count_24 rfl (lv_at hl 0 rfl) ?_
      refine lv_sipush (v := nI 256) hx hb d_MD_count_25 (by decide +kernel) ?_
      refine lv_icmp_ge (tgt := 54) hx hb d_MD_count_28 (by decide) (fun z => absurd z (nI_ge (show i < 256 by omega) (by decide))) (fun _ => ?_)
      refine lv_iload_n hx hb d_MD_count_31 rfl (lv_at hl 1 rfl) ?_
      refine lv_aload_n hx hb d_MD_count_32 rfl (lv_at hl 2 rfl) ?_
      refine sx_get C0 hP 0 rfl rfl 6 (by decide) f_MD_30 rfl rfl d_MD_count_33 ?_
      refine lv_iload_n hx hb d_MD_count_36 rfl (lv_at hl 0 rfl) ?_
      refine sx_zald (i := i) (v := T i) C0 hP 3 rfl rfl (show i < 256 by omega) (by decide) rfl d_MD_count_37 ?_
      refine lv_if_eq (tgt := 45) hx hb d_MD_count_38 (by decide) (fun h1 => ?_) (fun h1 => ?_)
      · have e2 : p_cnT T (i + 1) = p_cnT T i := by show p_cnT T i + _ = _; rw [if_pos h1, Nat.add_zero]
        refine lv_iconst (v := nI 0) hx hb d_MD_count_45 (by decide +kernel) ?_
        refine lv_iadd hx hb d_MD_count_46 ?_
        refine sx_topi (y := nI (p_cnT T i)) (by rw [nI_add, Nat.add_zero]) ?_
        refine lv_istore_n hx hb d_MD_count_47 rfl hl (by decide) rfl (fun ls hl => ?_)
        have hl : lv_has ls 4 [(2, .int (nI (p_cnT T i))), (3, .int (nI i)), (0, .ref (md 0)), (1, .int (nI 2))] := hl
        refine lv_iinc (k := 1) (v := nI (i + 1)) hx hb d_MD_count_48 hl rfl (nI_1 i) (by decide) rfl (fun ls hl => ?_)
        have hl : lv_has ls 4 [(3, .int (nI (i + 1))), (2, .int (nI (p_cnT T i))), (0, .ref (md 0)), (1, .int (nI 2))] := hl
        refine lv_goto (tgt := 24) hx hb d_MD_count_51 (by decide) ?_
        exact ih (i + 1) ls (by omega) (by rw [e2]; exact hl)
      · have e2 : p_cnT T (i + 1) = p_cnT T i + 1 := by show p_cnT T i + _ = _; rw [if_neg h1]
        refine lv_iconst (v := nI 1) hx hb d_MD_count_41 (by decide +kernel) ?_
        refine lv_goto (tgt := 46) hx hb d_MD_count_42 (by decide) ?_
        refine lv_iadd hx hb d_MD_count_46 ?_
        refine sx_topi (y := nI (p_cnT T i + 1)) (nI_add _ _) ?_
        refine lv_istore_n hx hb d_MD_count_47 rfl hl (by decide) rfl (fun ls hl => ?_)
        have hl : lv_has ls 4 [(2, .int (nI (p_cnT T i + 1))), (3, .int (nI i)), (0, .ref (md 0)), (1, .int (nI 2))] := hl
        refine lv_iinc (k := 1) (v := nI (i + 1)) hx hb d_MD_count_48 hl rfl (nI_1 i) (by decide) rfl (fun ls hl => ?_)
        have hl : lv_has ls 4 [(3, .int (nI (i + 1))), (2, .int (nI (p_cnT T i + 1))), (0, .ref (md 0)), (1, .int (nI 2))] := hl
        refine lv_goto (tgt := 24) hx hb d_MD_count_51 (by decide) ?_
        exact ih (i + 1) ls (by omega) (by rw [e2]; exact hl)
  refine lv_iload_n hx hb d_MD_count_5 rfl (lv_at hl 1 rfl) ?_
  refine lv_if_lt (tgt := 14) hx hb d_MD_count_6 (by decide) (fun z => absurd z (nI_pos (by decide))) (fun _ => ?_)
  refine lv_iload_n hx hb d_MD_count_9 rfl (lv_at hl 1 rfl) ?_
  refine lv_iconst (v := nI 3) hx hb d_MD_count_10 (by decide +kernel) ?_
  refine lv_icmp_le (tgt := 20) hx hb d_MD_count_11 (by decide) (fun _ => ?_) (fun z => absurd (nI_le (by decide) (by decide)) z)
  refine lv_iconst (v := nI 0) hx hb d_MD_count_20 (by decide +kernel) ?_
  refine lv_istore_n hx hb d_MD_count_21 rfl hl (by decide) rfl (fun ls hl => ?_)
  have hl : lv_has ls 4 [(2, .int (nI 0)), (0, .ref (md 0)), (1, .int (nI 2))] := hl
  refine lv_iconst (v := nI 0) hx hb d_MD_count_22 (by decide +kernel) ?_
  refine lv_istore_n hx hb d_MD_count_23 rfl hl (by decide) rfl (fun ls hl => ?_)
  have hl : lv_has ls 4 [(3, .int (nI 0)), (2, .int (nI 0)), (0, .ref (md 0)), (1, .int (nI 2))] := hl
  exact loop 256 0 ls rfl hl
theorem c_MD_count3 : sx_Ctr l y_MD_count w_MD_count (sx_rm 1 0 0 22) G [.ref (md 0), .int (nI 3)] (wM4 G md fl V F T rf dp) (sx_is G (some (.int (nI (p_cnL V 256)))) (wM4 G md 0 V F T rf dp)) := by
  refine sx_Ctr.of (by decide +kernel) (Nat.le_of_ble_eq_true rfl) ?_
  intro p e s m below meth c9 ls A C0 hr hlk hnm hl hP hD hA hS
  have C0 : sx_C p s m c9 b_MD_count 4 sx_MD G := C0
  have hx := C0.1
  have hb := C0.2.1
  have hl : lv_has ls 4 [(0, .ref (md 0)), (1, .int (nI 3))] := hl
  refine lv_aload_n hx hb d_MD_count_0 rfl (lv_at hl 0 rfl) ?_
  refine lv_iconst (v := 0) hx hb d_MD_count_1 (by decide) ?_
  refine sx_put (ty := .int) C0 hP hD hS 0 rfl rfl 0 (by decide) f_MD_34 rfl rfl (by decide +kernel) rfl rfl (Nat.le_of_ble_eq_true rfl) d_MD_count_2 (fun H locs hP hD hS => ?_)
  have hP : va_P G.1 sx_cls ([(md 0, .inr (2, [.int 0, .ref (md 1), .ref (md 2), .ref (md 3), .ref (md 4), .ref (md 5), .ref (md 6), .int rf, .int (nI dp)])), (md 4, .inl (G.2 1, 256, .inr (.inl V))), (md 5, .inl (G.2 1, 256, .inr (.inl F))), (md 6, .inl (G.2 2, 256, .inl T))]) H := hP
  have hD : va_D A ([(md 0, .inr (2, [.int 0, .ref (md 1), .ref (md 2), .ref (md 3), .ref (md 4), .ref (md 5), .ref (md 6), .int rf, .int (nI dp)])), (md 4, .inl (G.2 1, 256, .inr (.inl V))), (md 5, .inl (G.2 1, 256, .inr (.inl F))), (md 6, .inl (G.2 2, 256, .inl T))]) := hD
  have loop : ∀ (k i : Nat) (ls : Array Slot), i + k = 256 → lv_has ls 4 [(3, .int (nI i)), (2, .int (nI (p_cnT T i))), (0, .ref (md 0)), (1, .int (nI 3))] → W p l e (sx_rm 1 0 0 22) s m ([.ref (md 0), .int (nI 3)] : List Value).toArray below meth c9 H locs 0 0 (MQ below (sx_Q (sx_is G (some (.int (nI (p_cnL V 256)))) (wM4 G md 0 V F T rf dp)) A) ([.ref (md 0), .int (nI 3)] : List Value).toArray s 0 0 A) (F0 m 24 ls []) := by
    intro k
    induction k with
    | zero =>
      intro i ls hi hl
      have e1 : i = 256 := hi
      subst e1
      refine lv_iload_n hx hb d_MD_count_24 rfl (lv_at hl 0 rfl) ?_
      refine lv_sipush (v := nI 256) hx hb d_MD_count_25 (by decide +kernel) ?_
      refine lv_icmp_ge (tgt := 54) hx hb d_MD_count_28 (by decide) (fun _ => ?_) (fun z => absurd (Int32.le_refl _) z)
      refine lv_iload_n hx hb d_MD_count_54 rfl (lv_at hl 3 rfl) ?_
      refine lv_if_ne (tgt := 65) hx hb d_MD_count_55 (by decide) (fun _ => ?_) (fun z => absurd z (nI_ne0 (by decide) (by decide)))
      refine lv_iload_n hx hb d_MD_count_65 rfl (lv_at hl 3 rfl) ?_
      refine lv_iconst (v := nI 1) hx hb d_MD_count_66 (by decide +kernel) ?_
      refine lv_icmp_ne (tgt := 74) hx hb d_MD_count_67 (by decide) (fun _ => ?_) (fun z => absurd z ((by decide +kernel : ¬ nI 3 = nI 1)))
      refine lv_iload_n hx hb d_MD_count_74 rfl (lv_at hl 3 rfl) ?_
      refine lv_iconst (v := nI 2) hx hb d_MD_count_75 (by decide +kernel) ?_
      refine lv_icmp_ne (tgt := 86) hx hb d_MD_count_76 (by decide) (fun _ => ?_) (fun z => absurd z ((by decide +kernel : ¬ nI 3 = nI 2)))
      refine lv_aload_n hx hb d_MD_count_86 rfl (lv_at hl 2 rfl) ?_
      refine sx_cVP (As := []) (rest := []) (wc := (wM4 G md 0 V F T rf dp)) (k0 := 0) C0 c_MD_filled q_MD_44 i_MD_filled ⟨Nat.le_of_ble_eq_true rfl, Nat.le_of_ble_eq_true rfl⟩ rfl rfl rfl hP hl.1 rfl (Nat.zero_le _) d_MD_count_87 ⟨Nat.zero_le _, Nat.zero_le _⟩ ?_
      exact sx_iret C0 hr hlk hS ⟨rfl, hP, hD⟩ d_MD_count_90
    | succ k ih =>
      intro i ls hi hl
      refine lv_iload_n hx hb d_MD_count_24 rfl (lv_at hl 0 rfl) ?_
      refine lv_sipush (v := nI 256) hx hb d_MD_count_25 (by decide +kernel) ?_
      refine lv_icmp_ge (tgt := 54) hx hb d_MD_count_28 (by decide) (fun z => absurd z (nI_ge (show i < 256 by omega) (by decide))) (fun _ => ?_)
      refine lv_iload_n hx hb d_MD_count_31 rfl (lv_at hl 1 rfl) ?_
      refine lv_aload_n hx hb d_MD_count_32 rfl (lv_at hl 2 rfl) ?_
      refine sx_get C0 hP 0 rfl rfl 6 (by decide) f_MD_30 rfl rfl d_MD_count_33 ?_
      refine lv_iload_n hx hb d_MD_count_36 rfl (lv_at hl 0 rfl) ?_
      refine sx_zald (i := i) (v := T i) C0 hP 3 rfl rfl (show i < 256 by omega) (by decide) rfl d_MD_count_37 ?_
      refine lv_if_eq (tgt := 45) hx hb d_MD_count_38 (by decide) (fun h1 => ?_) (fun h1 => ?_)
      · have e2 : p_cnT T (i + 1) = p_cnT T i := by show p_cnT T i + _ = _; rw [if_pos h1, Nat.add_zero]
        refine lv_iconst (v := nI 0) hx hb d_MD_count_45 (by decide +kernel) ?_
        refine lv_iadd hx hb d_MD_count_46 ?_
        refine sx_topi (y := nI (p_cnT T i)) (by rw [nI_add, Nat.add_zero]) ?_
        refine lv_istore_n hx hb d_MD_count_47 rfl hl (by decide) rfl (fun ls hl => ?_)
        have hl : lv_has ls 4 [(2, .int (nI (p_cnT T i))), (3, .int (nI i)), (0, .ref (md 0)), (1, .int (nI 3))] := hl
        refine lv_iinc (k := 1) (v := nI (i + 1)) hx hb d_MD_count_48 hl rfl (nI_1 i) (by decide) rfl (fun ls hl => ?_)
        have hl : lv_has ls 4 [(3, .int (nI (i + 1))), (2, .int (nI (p_cnT T i))), (0, .ref (md 0)), (1, .int (nI 3))] := hl
        refine lv_goto (tgt := 24) hx hb d_MD_count_51 (by decide) ?_
        exact ih (i + 1) ls (by omega) (by rw [e2]; exact hl)
      · have e2 : p_cnT T (i + 1) = p_cnT T i + 1 := by show p_cnT T i + _ = _; rw [if_neg h1]
        refine lv_iconst (v := nI 1) hx hb d_MD_count_41 (by decide +kernel) ?_
        refine lv_goto (tgt := 46) hx hb d_MD_count_42 (by decide) ?_
        refine lv_iadd hx hb d_MD_count_46 ?_
        refine sx_topi (y := nI (p_cnT T i + 1)) (nI_add _ _) ?_
        refine lv_istore_n hx hb d_MD_count_47 rfl hl (by decide) rfl (fun ls hl => ?_)
        have hl : lv_has ls 4 [(2, .int (nI (p_cnT T i + 1))), (3, .int (nI i)), (0, .ref (md 0)), (1, .int (nI 3))] := hl
        refine lv_iinc (k := 1) (v := nI (i + 1)) hx hb d_MD_count_48 hl rfl (nI_1 i) (by decide) rfl (fun ls hl => ?_)
        have hl : lv_has ls 4 [(3, .int (nI (i + 1))), (2, .int (nI (p_cnT T i + 1))), (0, .ref (md 0)), (1, .int (nI 3))] := hl
        refine lv_goto (tgt := 24) hx hb d_MD_count_51 (by decide) ?_
        exact ih (i + 1) ls (by omega) (by rw [e2]; exact hl)
  refine lv_iload_n hx hb d_MD_count_5 rfl (lv_at hl 1 rfl) ?_
  refine lv_if_lt (tgt := 14) hx hb d_MD_count_6 (by decide) (fun z => absurd z (nI_pos (by decide))) (fun _ => ?_)
  refine lv_iload_n hx hb d_MD_count_9 rfl (lv_at hl 1 rfl) ?_
  refine lv_iconst (v := nI 3) hx hb d_MD_count_10 (by decide +kernel) ?_
  refine lv_icmp_le (tgt := 20) hx hb d_MD_count_11 (by decide) (fun _ => ?_) (fun z => absurd (nI_le (by decide) (by decide)) z)
  refine lv_iconst (v := nI 0) hx hb d_MD_count_20 (by decide +kernel) ?_
  refine lv_istore_n hx hb d_MD_count_21 rfl hl (by decide) rfl (fun ls hl => ?_)
  have hl : lv_has ls 4 [(2, .int (nI 0)), (0, .ref (md 0)), (1, .int (nI 3))] := hl
  refine lv_iconst (v := nI 0) hx hb d_MD_count_22 (by decide +kernel) ?_
  refine lv_istore_n hx hb d_MD_count_23 rfl hl (by decide) rfl (fun ls hl => ?_)
  have hl : lv_has ls 4 [(3, .int (nI 0)), (2, .int (nI 0)), (0, .ref (md 0)), (1, .int (nI 3))] := hl
  exact loop 256 0 ls rfl hl
end SM1
end
section
/-! StorageCostsModel.store -/
theorem p_given_same {f c v : Int64} (h : v = c) : p_given f c v = 0 := by
  subst h
  unfold p_given
  by_cases h1 : f = v
  · subst h1
    rw [if_pos rfl, if_neg (fun z => z.1 z.2)]
  · rw [if_neg h1, if_neg h1]
    by_cases h2 : f ≠ 0 ∧ v = 0
    · rw [if_pos h2, if_pos h2]; decide
    · rw [if_neg h2, if_neg h2]; decide
section SM2
variable {l : Launch} {G : sx_G} {md : Nat → Nat} {fl : Int32} {V F : Nat → Int64} {T : Nat → Int32} {rf : Int32} {dp : Nat}
set_option maxRecDepth 20000 in
theorem k_MD_store {p : Program} {e : Env} {R : Room} {s : State} {m : MethodId} {args : Array Value} {below : List Frame} {meth : Method} {c9 : Code} {H : Heap} {locs : List Loc} {cells slots : Nat} {Q : State → Prop} {ls : Array Slot} {a b : Nat} {v : Int64} {g : Int32} (C0 : sx_C p s m c9 b_MD_store 13 sx_MD G) (ha : a < 4) (hb1 : b < 64) (hP : va_P G.1 sx_cls (wM4 G md 0 V F T rf dp) H) (hl : lv_has ls 13 [(0, .ref (md 0)), (1, .int (nI a)), (2, .int (nI b)), (3, .long v), (5, .int g)])
    (kk : ∀ ls : Array Slot, lv_has ls 13 [(8, .int (p_given (F (64 * a + b)) (V (64 * a + b)) v)), (7, .int (p_cost (T (64 * a + b)) (F (64 * a + b)) (V (64 * a + b)) v)), (11, .long (V (64 * a + b))), (9, .long (F (64 * a + b))), (6, .int (nI (64 * a + b))), (0, .ref (md 0)), (1, .int (nI a)), (2, .int (nI b)), (3, .long v), (5, .int g)] → W p l e R s m args below meth c9 H locs cells slots Q (F0 m 201 ls [])) : W p l e R s m args below meth c9 H locs cells slots Q (F0 m 20 ls []) := by
  have hx := C0.1
  have hb := C0.2.1
  have fin : ∀ (r r2 : Int32) (ls : Array Slot), r = (p_cost (T (64 * a + b)) (F (64 * a + b)) (V (64 * a + b)) v) → r2 = (p_given (F (64 * a + b)) (V (64 * a + b)) v) → lv_has ls 13 [(8, .int r2), (7, .int r), (11, .long (V (64 * a + b))), (9, .long (F (64 * a + b))), (6, .int (nI (64 * a + b))), (0, .ref (md 0)), (1, .int (nI a)), (2, .int (nI b)), (3, .long v), (5, .int g)] → W p l e R s m args below meth c9 H locs cells slots Q (F0 m 201 ls []) := by
    intro r r2 ls e1 e2 hl
    subst e1
    subst e2
    exact kk ls hl
  have tail2 : ∀ (r r2 : Int32) (ls : Array Slot), ¬ F (64 * a + b) = V (64 * a + b) → r = (p_cost (T (64 * a + b)) (F (64 * a + b)) (V (64 * a + b)) v) → r2 = (if F (64 * a + b) ≠ 0 ∧ V (64 * a + b) = 0 then (-15000) else 0) + (if F (64 * a + b) ≠ 0 ∧ v = 0 then 15000 else 0) → lv_has ls 13 [(8, .int r2), (7, .int r), (11, .long (V (64 * a + b))), (9, .long (F (64 * a + b))), (6, .int (nI (64 * a + b))), (0, .ref (md 0)), (1, .int (nI a)), (2, .int (nI b)), (3, .long v), (5, .int g)] → W p l e R s m args below meth c9 H locs cells slots Q (F0 m 173 ls []) := by
    intro r r2 ls hfc e1 e2 hl
    refine lv_lload hx hb d_MD_store_173 (lv_at hl 3 rfl) ?_
    refine lv_lload_n hx hb d_MD_store_175 rfl (lv_at hl 8 rfl) ?_
    refine sx_lifne (tgt := 201) C0 d_MD_store_176 d_MD_store_177 (by decide) (fun h4 => ?_) (fun h4 => ?_)
    · exact fin r r2 ls e1 (by rw [e2]; simp only [p_given]; rw [if_neg hfc, if_neg h4, Int32.add_zero]) hl
    · skip
      refine lv_iload hx hb d_MD_store_180 (lv_at hl 0 rfl) ?_
      refine lv_lload hx hb d_MD_store_182 (lv_at hl 3 rfl) ?_
      refine lv_lconst (v := 0) hx hb d_MD_store_184 (by decide) ?_
      refine sx_lifne (tgt := 195) C0 d_MD_store_185 d_MD_store_186 (by decide) (fun h5 => ?_) (fun h5 => ?_)
      · skip
        refine lv_sipush (v := 2800) hx hb d_MD_store_195 (by decide) ?_
        refine lv_iadd hx hb d_MD_store_198 ?_
        refine lv_istore hx hb d_MD_store_199 hl (by decide) rfl (fun ls hl => ?_)
        have hl : lv_has ls 13 [(8, .int (r2 + 2800)), (7, .int r), (11, .long (V (64 * a + b))), (9, .long (F (64 * a + b))), (6, .int (nI (64 * a + b))), (0, .ref (md 0)), (1, .int (nI a)), (2, .int (nI b)), (3, .long v), (5, .int g)] := hl
        exact fin r _ ls e1 (by rw [e2]; simp only [p_given]; rw [if_neg hfc, if_pos h4, if_neg h5]) (lv_sub hl [0, 1, 2, 3, 4, 5, 6, 7, 8, 9] rfl)
      · skip
        refine lv_sipush (v := 19900) hx hb d_MD_store_189 (by decide) ?_
        refine lv_goto (tgt := 198) hx hb d_MD_store_192 (by decide) ?_
        refine lv_iadd hx hb d_MD_store_198 ?_
        refine lv_istore hx hb d_MD_store_199 hl (by decide) rfl (fun ls hl => ?_)
        have hl : lv_has ls 13 [(8, .int (r2 + 19900)), (7, .int r), (11, .long (V (64 * a + b))), (9, .long (F (64 * a + b))), (6, .int (nI (64 * a + b))), (0, .ref (md 0)), (1, .int (nI a)), (2, .int (nI b)), (3, .long v), (5, .int g)] := hl
        exact fin r _ ls e1 (by rw [e2]; simp only [p_given]; rw [if_neg hfc, if_pos h4, if_pos h5]) (lv_sub hl [0, 1, 2, 3, 4, 5, 6, 7, 8, 9] rfl)
  have tail1 : ∀ (r r2 : Int32) (ls : Array Slot), ¬ F (64 * a + b) = V (64 * a + b) → r = (p_cost (T (64 * a + b)) (F (64 * a + b)) (V (64 * a + b)) v) → r2 = (if F (64 * a + b) ≠ 0 ∧ V (64 * a + b) = 0 then (-15000) else 0) → lv_has ls 13 [(8, .int r2), (7, .int r), (11, .long (V (64 * a + b))), (9, .long (F (64 * a + b))), (6, .int (nI (64 * a + b))), (0, .ref (md 0)), (1, .int (nI a)), (2, .int (nI b)), (3, .long v), (5, .int g)] → W p l e R s m args below meth c9 H locs cells slots Q (F0 m 154 ls []) := by
    intro r r2 ls hfc e1 e2 hl
    refine lv_lload hx hb d_MD_store_154 (lv_at hl 3 rfl) ?_
    refine lv_lconst (v := 0) hx hb d_MD_store_156 (by decide) ?_
    refine sx_lifeq (tgt := 173) C0 d_MD_store_157 d_MD_store_158 (by decide) (fun h4 => ?_) (fun h4 => ?_)
    · exact tail2 r r2 ls hfc e1 (by rw [e2, if_neg (fun z : F (64 * a + b) ≠ 0 ∧ v = 0 => z.1 h4), Int32.add_zero]) hl
    · skip
      refine lv_lload_n hx hb d_MD_store_161 rfl (lv_at hl 8 rfl) ?_
      refine lv_lconst (v := 0) hx hb d_MD_store_162 (by decide) ?_
      refine sx_lifne (tgt := 173) C0 d_MD_store_163 d_MD_store_164 (by decide) (fun h5 => ?_) (fun h5 => ?_)
      · exact tail2 r r2 ls hfc e1 (by rw [e2, if_neg (fun z : F (64 * a + b) ≠ 0 ∧ v = 0 => h5 z.2), Int32.add_zero]) hl
      · skip
        refine lv_iincW (k := 0) (v := r2 + 15000) hx hb d_MD_store_167 hl rfl rfl (by decide) rfl (fun ls hl => ?_)
        have hl : lv_has ls 13 [(8, .int (r2 + 15000)), (7, .int r), (11, .long (V (64 * a + b))), (9, .long (F (64 * a + b))), (6, .int (nI (64 * a + b))), (0, .ref (md 0)), (1, .int (nI a)), (2, .int (nI b)), (3, .long v), (5, .int g)] := hl
        exact tail2 r _ ls hfc e1 (by rw [e2, if_pos (⟨h4, h5⟩ : F (64 * a + b) ≠ 0 ∧ v = 0)]) (lv_sub hl [0, 1, 2, 3, 4, 5, 6, 7, 8, 9] rfl)
  have rest : ∀ (r : Int32) (ls : Array Slot), r = (if T (64 * a + b) = 0 then 2100 else 0) → lv_has ls 13 [(7, .int r), (6, .int (nI (64 * a + b))), (0, .ref (md 0)), (1, .int (nI a)), (2, .int (nI b)), (3, .long v), (5, .int g)] → W p l e R s m args below meth c9 H locs cells slots Q (F0 m 47 ls []) := by
    intro r ls e0 hl
    refine lv_iconst (v := 0) hx hb d_MD_store_47 (by decide) ?_
    refine lv_istore hx hb d_MD_store_48 hl (by decide) rfl (fun ls hl => ?_)
    have hl : lv_has ls 13 [(8, .int 0), (7, .int r), (6, .int (nI (64 * a + b))), (0, .ref (md 0)), (1, .int (nI a)), (2, .int (nI b)), (3, .long v), (5, .int g)] := hl
    refine lv_aload_n hx hb d_MD_store_50 rfl (lv_at hl 3 rfl) ?_
    refine sx_get C0 hP 0 rfl rfl 5 (by decide) f_MD_27 rfl rfl d_MD_store_51 ?_
    refine lv_iload hx hb d_MD_store_54 (lv_at hl 2 rfl) ?_
    refine sx_lald (i := (64 * a + b)) (v := F (64 * a + b)) C0 hP 2 rfl rfl (show 64 * a + b < 256 by omega) (by decide) rfl d_MD_store_56 ?_
    refine lv_lstore hx hb d_MD_store_57 hl (by decide) rfl (fun ls hl => ?_)
    have hl : lv_has ls 13 [(9, .long (F (64 * a + b))), (8, .int 0), (7, .int r), (6, .int (nI (64 * a + b))), (0, .ref (md 0)), (1, .int (nI a)), (2, .int (nI b)), (3, .long v), (5, .int g)] := hl
    refine lv_aload_n hx hb d_MD_store_59 rfl (lv_at hl 4 rfl) ?_
    refine sx_get C0 hP 0 rfl rfl 4 (by decide) f_MD_23 rfl rfl d_MD_store_60 ?_
    refine lv_iload hx hb d_MD_store_63 (lv_at hl 3 rfl) ?_
    refine sx_lald (i := (64 * a + b)) (v := V (64 * a + b)) C0 hP 1 rfl rfl (show 64 * a + b < 256 by omega) (by decide) rfl d_MD_store_65 ?_
    refine lv_lstore hx hb d_MD_store_66 hl (by decide) rfl (fun ls hl => ?_)
    have hl : lv_has ls 13 [(11, .long (V (64 * a + b))), (9, .long (F (64 * a + b))), (8, .int 0), (7, .int r), (6, .int (nI (64 * a + b))), (0, .ref (md 0)), (1, .int (nI a)), (2, .int (nI b)), (3, .long v), (5, .int g)] := hl
    refine lv_lload_n hx hb d_MD_store_68 rfl (lv_at hl 8 rfl) ?_
    refine lv_lload hx hb d_MD_store_69 (lv_at hl 0 rfl) ?_
    refine sx_lifne (tgt := 81) C0 d_MD_store_71 d_MD_store_72 (by decide) (fun h1 => ?_) (fun h1 => ?_)
    · skip
      refine lv_lload hx hb d_MD_store_81 (lv_at hl 1 rfl) ?_
      refine lv_lload hx hb d_MD_store_83 (lv_at hl 0 rfl) ?_
      refine sx_lifne (tgt := 131) C0 d_MD_store_85 d_MD_store_86 (by decide) (fun h2 => ?_) (fun h2 => ?_)
      · skip
        refine lv_iinc (k := 3) (v := r + 100) hx hb d_MD_store_131 hl rfl rfl (by decide) rfl (fun ls hl => ?_)
        have hl : lv_has ls 13 [(7, .int (r + 100)), (11, .long (V (64 * a + b))), (9, .long (F (64 * a + b))), (8, .int 0), (6, .int (nI (64 * a + b))), (0, .ref (md 0)), (1, .int (nI a)), (2, .int (nI b)), (3, .long v), (5, .int g)] := hl
        refine lv_lload hx hb d_MD_store_134 (lv_at hl 2 rfl) ?_
        refine lv_lconst (v := 0) hx hb d_MD_store_136 (by decide) ?_
        refine sx_lifeq (tgt := 154) C0 d_MD_store_137 d_MD_store_138 (by decide) (fun h4 => ?_) (fun h4 => ?_)
        · exact tail1 _ 0 ls h2 (by rw [e0]; simp only [p_cost]; rw [if_pos (Or.inr h2)]) (by rw [if_neg (fun z : F (64 * a + b) ≠ 0 ∧ V (64 * a + b) = 0 => z.1 h4)]) (lv_sub hl [3, 0, 1, 2, 4, 5, 6, 7, 8, 9] rfl)
        · skip
          refine lv_lload hx hb d_MD_store_141 (lv_at hl 1 rfl) ?_
          refine lv_lconst (v := 0) hx hb d_MD_store_143 (by decide) ?_
          refine sx_lifne (tgt := 154) C0 d_MD_store_144 d_MD_store_145 (by decide) (fun h5 => ?_) (fun h5 => ?_)
          · exact tail1 _ 0 ls h2 (by rw [e0]; simp only [p_cost]; rw [if_pos (Or.inr h2)]) (by rw [if_neg (fun z : F (64 * a + b) ≠ 0 ∧ V (64 * a + b) = 0 => h5 z.2)]) (lv_sub hl [3, 0, 1, 2, 4, 5, 6, 7, 8, 9] rfl)
          · skip
            refine lv_iincW (k := 3) (v := 0 + (-15000)) hx hb d_MD_store_148 hl rfl rfl (by decide) rfl (fun ls hl => ?_)
            have hl : lv_has ls 13 [(8, .int (0 + (-15000))), (7, .int (r + 100)), (11, .long (V (64 * a + b))), (9, .long (F (64 * a + b))), (6, .int (nI (64 * a + b))), (0, .ref (md 0)), (1, .int (nI a)), (2, .int (nI b)), (3, .long v), (5, .int g)] := hl
            exact tail1 _ _ ls h2 (by rw [e0]; simp only [p_cost]; rw [if_pos (Or.inr h2)]) (by rw [if_pos (⟨h4, h5⟩ : F (64 * a + b) ≠ 0 ∧ V (64 * a + b) = 0)]; rfl) (lv_sub hl [0, 1, 2, 3, 4, 5, 6, 7, 8, 9] rfl)
      · skip
        refine lv_iload hx hb d_MD_store_89 (lv_at hl 3 rfl) ?_
        refine lv_lload hx hb d_MD_store_91 (lv_at hl 1 rfl) ?_
        refine lv_lconst (v := 0) hx hb d_MD_store_93 (by decide) ?_
        refine sx_lifne (tgt := 104) C0 d_MD_store_94 d_MD_store_95 (by decide) (fun h3 => ?_) (fun h3 => ?_)
        · skip
          refine lv_sipush (v := 2900) hx hb d_MD_store_104 (by decide) ?_
          refine lv_iadd hx hb d_MD_store_107 ?_
          refine lv_istore hx hb d_MD_store_108 hl (by decide) rfl (fun ls hl => ?_)
          have hl : lv_has ls 13 [(7, .int (r + 2900)), (11, .long (V (64 * a + b))), (9, .long (F (64 * a + b))), (8, .int 0), (6, .int (nI (64 * a + b))), (0, .ref (md 0)), (1, .int (nI a)), (2, .int (nI b)), (3, .long v), (5, .int g)] := hl
          refine lv_lload hx hb d_MD_store_110 (lv_at hl 2 rfl) ?_
          refine lv_lconst (v := 0) hx hb d_MD_store_112 (by decide) ?_
          refine sx_lifeq (tgt := 201) C0 d_MD_store_113 d_MD_store_114 (by decide) (fun z => absurd z h3) (fun _ => ?_)
          refine lv_lload_n hx hb d_MD_store_117 rfl (lv_at hl 8 rfl) ?_
          refine lv_lconst (v := 0) hx hb d_MD_store_118 (by decide) ?_
          refine sx_lifne (tgt := 201) C0 d_MD_store_119 d_MD_store_120 (by decide) (fun h5 => ?_) (fun h5 => ?_)
          · exact fin _ _ ls (by rw [e0]; simp only [p_cost]; rw [if_neg (fun z : v = V (64 * a + b) ∨ F (64 * a + b) ≠ V (64 * a + b) => z.elim h1 (fun z => z h2)), if_neg h3]) (by simp only [p_given]; rw [if_pos h2, if_neg (fun z : F (64 * a + b) ≠ 0 ∧ v = 0 => h5 z.2)]) (lv_sub hl [3, 0, 1, 2, 4, 5, 6, 7, 8, 9] rfl)
          · skip
            refine lv_sipush (v := 15000) hx hb d_MD_store_123 (by decide) ?_
            refine lv_istore hx hb d_MD_store_126 hl (by decide) rfl (fun ls hl => ?_)
            have hl : lv_has ls 13 [(8, .int 15000), (7, .int (r + 2900)), (11, .long (V (64 * a + b))), (9, .long (F (64 * a + b))), (6, .int (nI (64 * a + b))), (0, .ref (md 0)), (1, .int (nI a)), (2, .int (nI b)), (3, .long v), (5, .int g)] := hl
            refine lv_goto (tgt := 201) hx hb d_MD_store_128 (by decide) ?_
            exact fin _ _ ls (by rw [e0]; simp only [p_cost]; rw [if_neg (fun z : v = V (64 * a + b) ∨ F (64 * a + b) ≠ V (64 * a + b) => z.elim h1 (fun z => z h2)), if_neg h3]) (by simp only [p_given]; rw [if_pos h2, if_pos (⟨h3, h5⟩ : F (64 * a + b) ≠ 0 ∧ v = 0)]) (lv_sub hl [0, 1, 2, 3, 4, 5, 6, 7, 8, 9] rfl)
        · skip
          refine lv_sipush (v := 20000) hx hb d_MD_store_98 (by decide) ?_
          refine lv_goto (tgt := 107) hx hb d_MD_store_101 (by decide) ?_
          refine lv_iadd hx hb d_MD_store_107 ?_
          refine lv_istore hx hb d_MD_store_108 hl (by decide) rfl (fun ls hl => ?_)
          have hl : lv_has ls 13 [(7, .int (r + 20000)), (11, .long (V (64 * a + b))), (9, .long (F (64 * a + b))), (8, .int 0), (6, .int (nI (64 * a + b))), (0, .ref (md 0)), (1, .int (nI a)), (2, .int (nI b)), (3, .long v), (5, .int g)] := hl
          refine lv_lload hx hb d_MD_store_110 (lv_at hl 2 rfl) ?_
          refine lv_lconst (v := 0) hx hb d_MD_store_112 (by decide) ?_
          refine sx_lifeq (tgt := 201) C0 d_MD_store_113 d_MD_store_114 (by decide) (fun _ => ?_) (fun z => absurd h3 z)
          exact fin _ _ ls (by rw [e0]; simp only [p_cost]; rw [if_neg (fun z : v = V (64 * a + b) ∨ F (64 * a + b) ≠ V (64 * a + b) => z.elim h1 (fun z => z h2)), if_pos h3]) (by simp only [p_given]; rw [if_pos h2, if_neg (fun z : F (64 * a + b) ≠ 0 ∧ v = 0 => z.1 h3)]) (lv_sub hl [3, 0, 1, 2, 4, 5, 6, 7, 8, 9] rfl)
    · skip
      refine lv_iinc (k := 3) (v := r + 100) hx hb d_MD_store_75 hl rfl rfl (by decide) rfl (fun ls hl => ?_)
      have hl : lv_has ls 13 [(7, .int (r + 100)), (11, .long (V (64 * a + b))), (9, .long (F (64 * a + b))), (8, .int 0), (6, .int (nI (64 * a + b))), (0, .ref (md 0)), (1, .int (nI a)), (2, .int (nI b)), (3, .long v), (5, .int g)] := hl
      refine lv_goto (tgt := 201) hx hb d_MD_store_78 (by decide) ?_
      exact fin _ _ ls (by rw [e0]; simp only [p_cost]; rw [if_pos (Or.inl h1)]) (p_given_same h1).symm (lv_sub hl [3, 0, 1, 2, 4, 5, 6, 7, 8, 9] rfl)
  refine lv_bipush (v := nI 64) hx hb d_MD_store_20 (by decide +kernel) ?_
  refine lv_iload_n hx hb d_MD_store_22 rfl (lv_at hl 1 rfl) ?_
  refine lv_imul hx hb d_MD_store_23 ?_
  refine sx_topi (y := nI (64 * a)) (pk_mul 64 a) ?_
  refine lv_iload_n hx hb d_MD_store_24 rfl (lv_at hl 2 rfl) ?_
  refine lv_iadd hx hb d_MD_store_25 ?_
  refine sx_topi (y := nI (64 * a + b)) (nI_add _ _) ?_
  refine lv_istore hx hb d_MD_store_26 hl (by decide) rfl (fun ls hl => ?_)
  have hl : lv_has ls 13 [(6, .int (nI (64 * a + b))), (0, .ref (md 0)), (1, .int (nI a)), (2, .int (nI b)), (3, .long v), (5, .int g)] := hl
  refine lv_aload_n hx hb d_MD_store_28 rfl (lv_at hl 1 rfl) ?_
  refine sx_get C0 hP 0 rfl rfl 6 (by decide) f_MD_30 rfl rfl d_MD_store_29 ?_
  refine lv_iload hx hb d_MD_store_32 (lv_at hl 0 rfl) ?_
  refine sx_zald (i := (64 * a + b)) (v := T (64 * a + b)) C0 hP 3 rfl rfl (show 64 * a + b < 256 by omega) (by decide) rfl d_MD_store_34 ?_
  refine lv_if_eq (tgt := 42) hx hb d_MD_store_35 (by decide) (fun h1 => ?_) (fun h1 => ?_)
  · skip
    refine lv_sipush (v := 2100) hx hb d_MD_store_42 (by decide) ?_
    refine lv_istore hx hb d_MD_store_45 hl (by decide) rfl (fun ls hl => ?_)
    have hl : lv_has ls 13 [(7, .int 2100), (6, .int (nI (64 * a + b))), (0, .ref (md 0)), (1, .int (nI a)), (2, .int (nI b)), (3, .long v), (5, .int g)] := hl
    exact rest 2100 ls (by rw [if_pos h1]) hl
  · skip
    refine lv_iconst (v := 0) hx hb d_MD_store_38 (by decide) ?_
    refine lv_goto (tgt := 45) hx hb d_MD_store_39 (by decide) ?_
    refine lv_istore hx hb d_MD_store_45 hl (by decide) rfl (fun ls hl => ?_)
    have hl : lv_has ls 13 [(7, .int 0), (6, .int (nI (64 * a + b))), (0, .ref (md 0)), (1, .int (nI a)), (2, .int (nI b)), (3, .long v), (5, .int g)] := hl
    exact rest 0 ls (by rw [if_neg h1]) hl
theorem c_MD_store9 {o1 p1 g : Int32} {v : Int64} (ho : p_out o1 p1) : sx_Ctr l y_MD_store w_MD_store (sx_rm 1 0 0 22) G [.ref (md 0), .int o1, .int p1, .long v, .int g] (wM4 G md fl V F T rf dp) (sx_is G (some (.int 0)) (wM4 G md 1 V F T rf dp)) := by
  refine sx_Ctr.of (by decide +kernel) (Nat.le_of_ble_eq_true rfl) ?_
  intro p e s m below meth c9 ls A C0 hr hlk hnm hl hP hD hA hS
  have C0 : sx_C p s m c9 b_MD_store 13 sx_MD G := C0
  have hx := C0.1
  have hb := C0.2.1
  have hl : lv_has ls 13 [(0, .ref (md 0)), (1, .int o1), (2, .int p1), (3, .long v), (5, .int g)] := hl
  refine lv_aload_n hx hb d_MD_store_0 rfl (lv_at hl 0 rfl) ?_
  refine lv_iconst (v := 0) hx hb d_MD_store_1 (by decide) ?_
  refine sx_put (ty := .int) C0 hP hD hS 0 rfl rfl 0 (by decide) f_MD_34 rfl rfl (by decide +kernel) rfl rfl (Nat.le_of_ble_eq_true rfl) d_MD_store_2 (fun H locs hP hD hS => ?_)
  have hP : va_P G.1 sx_cls ([(md 0, .inr (2, [.int 0, .ref (md 1), .ref (md 2), .ref (md 3), .ref (md 4), .ref (md 5), .ref (md 6), .int rf, .int (nI dp)])), (md 4, .inl (G.2 1, 256, .inr (.inl V))), (md 5, .inl (G.2 1, 256, .inr (.inl F))), (md 6, .inl (G.2 2, 256, .inl T))]) H := hP
  have hD : va_D A ([(md 0, .inr (2, [.int 0, .ref (md 1), .ref (md 2), .ref (md 3), .ref (md 4), .ref (md 5), .ref (md 6), .int rf, .int (nI dp)])), (md 4, .inl (G.2 1, 256, .inr (.inl V))), (md 5, .inl (G.2 1, 256, .inr (.inl F))), (md 6, .inl (G.2 2, 256, .inl T))]) := hD
  refine lv_aload_n hx hb d_MD_store_5 rfl (lv_at hl 0 rfl) ?_
  refine lv_iload_n hx hb d_MD_store_6 rfl (lv_at hl 1 rfl) ?_
  refine lv_iload_n hx hb d_MD_store_7 rfl (lv_at hl 2 rfl) ?_
  refine sx_cVP (As := [.int o1, .int p1]) (rest := []) (k0 := 0) C0 (c_MD_out1 ho) q_MD_52 i_MD_out ⟨Nat.le_of_ble_eq_true rfl, Nat.le_of_ble_eq_true rfl⟩ rfl rfl rfl hP hl.1 rfl (Nat.zero_le _) d_MD_store_8 ⟨Nat.zero_le _, Nat.zero_le _⟩ ?_
  refine lv_if_eq (tgt := 20) hx hb d_MD_store_11 (by decide) (fun z => absurd z ((by decide : ¬ (1 : Int32) = 0))) (fun _ => ?_)
  refine lv_aload_n hx hb d_MD_store_14 rfl (lv_at hl 0 rfl) ?_
  refine lv_iconst (v := 1) hx hb d_MD_store_15 (by decide) ?_
  refine sx_cV (As := [.int 1]) (rest := []) (wa := []) (wb := []) (k0 := 0) C0 (c_MD_fail (fl := 0) (V := V) (F := F) (T := T) (rf := rf) (dp := dp)) q_MD_48 i_MD_fail ⟨Nat.le_of_ble_eq_true rfl, Nat.le_of_ble_eq_true rfl⟩ rfl rfl rfl hP hD hS hA hl.1 rfl (Nat.zero_le _) d_MD_store_16 ⟨Nat.le_of_ble_eq_true rfl, Nat.le_of_ble_eq_true rfl⟩ (fun r H locs hq hj hS => ?_)
  obtain ⟨rfl, hP1, hD1⟩ := hq
  obtain ⟨hP, hD⟩ := hj _ hP1 hD1
  have hP : va_P G.1 sx_cls ([(md 0, .inr (2, [.int 1, .ref (md 1), .ref (md 2), .ref (md 3), .ref (md 4), .ref (md 5), .ref (md 6), .int rf, .int (nI dp)])), (md 4, .inl (G.2 1, 256, .inr (.inl V))), (md 5, .inl (G.2 1, 256, .inr (.inl F))), (md 6, .inl (G.2 2, 256, .inl T))]) H := hP
  have hD : va_D A ([(md 0, .inr (2, [.int 1, .ref (md 1), .ref (md 2), .ref (md 3), .ref (md 4), .ref (md 5), .ref (md 6), .int rf, .int (nI dp)])), (md 4, .inl (G.2 1, 256, .inr (.inl V))), (md 5, .inl (G.2 1, 256, .inr (.inl F))), (md 6, .inl (G.2 2, 256, .inl T))]) := hD
  exact sx_iret C0 hr hlk hS ⟨rfl, hP, hD⟩ d_MD_store_19
theorem c_MD_store2 {a b : Nat} {v : Int64} {g : Int32} (ha : a < 4) (hb1 : b < 64) (hg : g ≤ 2300 ∨ ¬ (p_cost (T (64 * a + b)) (F (64 * a + b)) (V (64 * a + b)) v) ≤ g) : sx_Ctr l y_MD_store w_MD_store (sx_rm 1 0 0 22) G [.ref (md 0), .int (nI a), .int (nI b), .long v, .int g] (wM4 G md fl V F T rf dp) (sx_is G (some (.int 0)) (wM4 G md 2 V F T rf dp)) := by
  refine sx_Ctr.of (by decide +kernel) (Nat.le_of_ble_eq_true rfl) ?_
  intro p e s m below meth c9 ls A C0 hr hlk hnm hl hP hD hA hS
  have C0 : sx_C p s m c9 b_MD_store 13 sx_MD G := C0
  have hx := C0.1
  have hb := C0.2.1
  have hl : lv_has ls 13 [(0, .ref (md 0)), (1, .int (nI a)), (2, .int (nI b)), (3, .long v), (5, .int g)] := hl
  refine lv_aload_n hx hb d_MD_store_0 rfl (lv_at hl 0 rfl) ?_
  refine lv_iconst (v := 0) hx hb d_MD_store_1 (by decide) ?_
  refine sx_put (ty := .int) C0 hP hD hS 0 rfl rfl 0 (by decide) f_MD_34 rfl rfl (by decide +kernel) rfl rfl (Nat.le_of_ble_eq_true rfl) d_MD_store_2 (fun H locs hP hD hS => ?_)
  have hP : va_P G.1 sx_cls ([(md 0, .inr (2, [.int 0, .ref (md 1), .ref (md 2), .ref (md 3), .ref (md 4), .ref (md 5), .ref (md 6), .int rf, .int (nI dp)])), (md 4, .inl (G.2 1, 256, .inr (.inl V))), (md 5, .inl (G.2 1, 256, .inr (.inl F))), (md 6, .inl (G.2 2, 256, .inl T))]) H := hP
  have hD : va_D A ([(md 0, .inr (2, [.int 0, .ref (md 1), .ref (md 2), .ref (md 3), .ref (md 4), .ref (md 5), .ref (md 6), .int rf, .int (nI dp)])), (md 4, .inl (G.2 1, 256, .inr (.inl V))), (md 5, .inl (G.2 1, 256, .inr (.inl F))), (md 6, .inl (G.2 2, 256, .inl T))]) := hD
  refine lv_aload_n hx hb d_MD_store_5 rfl (lv_at hl 0 rfl) ?_
  refine lv_iload_n hx hb d_MD_store_6 rfl (lv_at hl 1 rfl) ?_
  refine lv_iload_n hx hb d_MD_store_7 rfl (lv_at hl 2 rfl) ?_
  refine sx_cVP (As := [.int (nI a), .int (nI b)]) (rest := []) (k0 := 0) C0 (c_MD_out0 ha hb1) q_MD_52 i_MD_out ⟨Nat.le_of_ble_eq_true rfl, Nat.le_of_ble_eq_true rfl⟩ rfl rfl rfl hP hl.1 rfl (Nat.zero_le _) d_MD_store_8 ⟨Nat.zero_le _, Nat.zero_le _⟩ ?_
  refine lv_if_eq (tgt := 20) hx hb d_MD_store_11 (by decide) (fun _ => ?_) (fun z => absurd (rfl) z)
  refine k_MD_store C0 ha hb1 hP hl (fun ls hl => ?_)
  have bad : W p l e (sx_rm 1 0 0 22) s m ([.ref (md 0), .int (nI a), .int (nI b), .long v, .int g] : List Value).toArray below meth c9 H locs 0 0 (MQ below (sx_Q (sx_is G (some (.int 0)) (wM4 G md 2 V F T rf dp)) A) ([.ref (md 0), .int (nI a), .int (nI b), .long v, .int g] : List Value).toArray s 0 0 A) (F0 m 216 ls []) := by
    refine lv_aload_n hx hb d_MD_store_216 rfl (lv_at hl 5 rfl) ?_
    refine lv_iconst (v := 2) hx hb d_MD_store_217 (by decide) ?_
    refine sx_cV (As := [.int 2]) (rest := []) (wa := []) (wb := []) (k0 := 0) C0 (c_MD_fail (fl := 0) (V := V) (F := F) (T := T) (rf := rf) (dp := dp)) q_MD_48 i_MD_fail ⟨Nat.le_of_ble_eq_true rfl, Nat.le_of_ble_eq_true rfl⟩ rfl rfl rfl hP hD hS hA hl.1 rfl (Nat.zero_le _) d_MD_store_218 ⟨Nat.le_of_ble_eq_true rfl, Nat.le_of_ble_eq_true rfl⟩ (fun r H locs hq hj hS => ?_)
    obtain ⟨rfl, hP1, hD1⟩ := hq
    obtain ⟨hP, hD⟩ := hj _ hP1 hD1
    have hP : va_P G.1 sx_cls ([(md 0, .inr (2, [.int 2, .ref (md 1), .ref (md 2), .ref (md 3), .ref (md 4), .ref (md 5), .ref (md 6), .int rf, .int (nI dp)])), (md 4, .inl (G.2 1, 256, .inr (.inl V))), (md 5, .inl (G.2 1, 256, .inr (.inl F))), (md 6, .inl (G.2 2, 256, .inl T))]) H := hP
    have hD : va_D A ([(md 0, .inr (2, [.int 2, .ref (md 1), .ref (md 2), .ref (md 3), .ref (md 4), .ref (md 5), .ref (md 6), .int rf, .int (nI dp)])), (md 4, .inl (G.2 1, 256, .inr (.inl V))), (md 5, .inl (G.2 1, 256, .inr (.inl F))), (md 6, .inl (G.2 2, 256, .inl T))]) := hD
    exact sx_iret C0 hr hlk hS ⟨rfl, hP, hD⟩ d_MD_store_221
  refine lv_iload hx hb d_MD_store_201 (lv_at hl 9 rfl) ?_
  refine lv_sipush (v := 2300) hx hb d_MD_store_203 (by decide) ?_
  refine lv_icmp_le (tgt := 216) hx hb d_MD_store_206 (by decide) (fun h1 => ?_) (fun h1 => ?_)
  · exact bad
  · skip
    refine lv_iload hx hb d_MD_store_209 (lv_at hl 1 rfl) ?_
    refine lv_iload hx hb d_MD_store_211 (lv_at hl 9 rfl) ?_
    refine lv_icmp_le (tgt := 222) hx hb d_MD_store_213 (by decide) (fun h2 => ?_) (fun h2 => ?_)
    · exact absurd h2 (hg.elim (fun z => absurd z h1) id)
    · exact bad
theorem c_MD_store0 {a b : Nat} {v : Int64} {g : Int32} (ha : a < 4) (hb1 : b < 64) (hg1 : ¬ g ≤ 2300) (hg2 : (p_cost (T (64 * a + b)) (F (64 * a + b)) (V (64 * a + b)) v) ≤ g) : sx_Ctr l y_MD_store w_MD_store (sx_rm 1 0 0 22) G [.ref (md 0), .int (nI a), .int (nI b), .long v, .int g] (wM4 G md fl V F T rf dp) (sx_is G (some (.int (p_cost (T (64 * a + b)) (F (64 * a + b)) (V (64 * a + b)) v))) (wM4 G md 0 (vp_updL V (64 * a + b) v) F (upd T (64 * a + b) 1) (rf + (p_given (F (64 * a + b)) (V (64 * a + b)) v)) dp)) := by
  refine sx_Ctr.of (by decide +kernel) (Nat.le_of_ble_eq_true rfl) ?_
  intro p e s m below meth c9 ls A C0 hr hlk hnm hl hP hD hA hS
  have C0 : sx_C p s m c9 b_MD_store 13 sx_MD G := C0
  have hx := C0.1
  have hb := C0.2.1
  have hl : lv_has ls 13 [(0, .ref (md 0)), (1, .int (nI a)), (2, .int (nI b)), (3, .long v), (5, .int g)] := hl
  refine lv_aload_n hx hb d_MD_store_0 rfl (lv_at hl 0 rfl) ?_
  refine lv_iconst (v := 0) hx hb d_MD_store_1 (by decide) ?_
  refine sx_put (ty := .int) C0 hP hD hS 0 rfl rfl 0 (by decide) f_MD_34 rfl rfl (by decide +kernel) rfl rfl (Nat.le_of_ble_eq_true rfl) d_MD_store_2 (fun H locs hP hD hS => ?_)
  have hP : va_P G.1 sx_cls ([(md 0, .inr (2, [.int 0, .ref (md 1), .ref (md 2), .ref (md 3), .ref (md 4), .ref (md 5), .ref (md 6), .int rf, .int (nI dp)])), (md 4, .inl (G.2 1, 256, .inr (.inl V))), (md 5, .inl (G.2 1, 256, .inr (.inl F))), (md 6, .inl (G.2 2, 256, .inl T))]) H := hP
  have hD : va_D A ([(md 0, .inr (2, [.int 0, .ref (md 1), .ref (md 2), .ref (md 3), .ref (md 4), .ref (md 5), .ref (md 6), .int rf, .int (nI dp)])), (md 4, .inl (G.2 1, 256, .inr (.inl V))), (md 5, .inl (G.2 1, 256, .inr (.inl F))), (md 6, .inl (G.2 2, 256, .inl T))]) := hD
  refine lv_aload_n hx hb d_MD_store_5 rfl (lv_at hl 0 rfl) ?_
  refine lv_iload_n hx hb d_MD_store_6 rfl (lv_at hl 1 rfl) ?_
  refine lv_iload_n hx hb d_MD_store_7 rfl (lv_at hl 2 rfl) ?_
  refine sx_cVP (As := [.int (nI a), .int (nI b)]) (rest := []) (k0 := 0) C0 (c_MD_out0 ha hb1) q_MD_52 i_MD_out ⟨Nat.le_of_ble_eq_true rfl, Nat.le_of_ble_eq_true rfl⟩ rfl rfl rfl hP hl.1 rfl (Nat.zero_le _) d_MD_store_8 ⟨Nat.zero_le _, Nat.zero_le _⟩ ?_
  refine lv_if_eq (tgt := 20) hx hb d_MD_store_11 (by decide) (fun _ => ?_) (fun z => absurd (rfl) z)
  refine k_MD_store C0 ha hb1 hP hl (fun ls hl => ?_)
  refine lv_iload hx hb d_MD_store_201 (lv_at hl 9 rfl) ?_
  refine lv_sipush (v := 2300) hx hb d_MD_store_203 (by decide) ?_
  refine lv_icmp_le (tgt := 216) hx hb d_MD_store_206 (by decide) (fun z => absurd z (hg1)) (fun _ => ?_)
  refine lv_iload hx hb d_MD_store_209 (lv_at hl 1 rfl) ?_
  refine lv_iload hx hb d_MD_store_211 (lv_at hl 9 rfl) ?_
  refine lv_icmp_le (tgt := 222) hx hb d_MD_store_213 (by decide) (fun _ => ?_) (fun z => absurd (hg2) z)
  refine lv_aload_n hx hb d_MD_store_222 rfl (lv_at hl 5 rfl) ?_
  refine sx_get C0 hP 0 rfl rfl 6 (by decide) f_MD_30 rfl rfl d_MD_store_223 ?_
  refine lv_iload hx hb d_MD_store_226 (lv_at hl 4 rfl) ?_
  refine lv_iconst (v := 1) hx hb d_MD_store_228 (by decide) ?_
  refine sx_zast (i := (64 * a + b)) C0 (by decide +kernel) hP hD hS 3 rfl rfl (show 64 * a + b < 256 by omega) (by decide) d_MD_store_229 (fun H locs hP hD hS => ?_)
  have hP : va_P G.1 sx_cls ([(md 0, .inr (2, [.int 0, .ref (md 1), .ref (md 2), .ref (md 3), .ref (md 4), .ref (md 5), .ref (md 6), .int rf, .int (nI dp)])), (md 4, .inl (G.2 1, 256, .inr (.inl V))), (md 5, .inl (G.2 1, 256, .inr (.inl F))), (md 6, .inl (G.2 2, 256, .inl (upd T (64 * a + b) 1)))]) H := hP
  have hD : va_D A ([(md 0, .inr (2, [.int 0, .ref (md 1), .ref (md 2), .ref (md 3), .ref (md 4), .ref (md 5), .ref (md 6), .int rf, .int (nI dp)])), (md 4, .inl (G.2 1, 256, .inr (.inl V))), (md 5, .inl (G.2 1, 256, .inr (.inl F))), (md 6, .inl (G.2 2, 256, .inl (upd T (64 * a + b) 1)))]) := hD
  refine lv_aload_n hx hb d_MD_store_230 rfl (lv_at hl 5 rfl) ?_
  refine sx_get C0 hP 0 rfl rfl 4 (by decide) f_MD_23 rfl rfl d_MD_store_231 ?_
  refine lv_iload hx hb d_MD_store_234 (lv_at hl 4 rfl) ?_
  refine lv_lload_n hx hb d_MD_store_236 rfl (lv_at hl 8 rfl) ?_
  refine sx_last (i := (64 * a + b)) C0 hP hD hS 1 rfl rfl (show 64 * a + b < 256 by omega) (by decide) d_MD_store_237 (fun H locs hP hD hS => ?_)
  have hP : va_P G.1 sx_cls ([(md 0, .inr (2, [.int 0, .ref (md 1), .ref (md 2), .ref (md 3), .ref (md 4), .ref (md 5), .ref (md 6), .int rf, .int (nI dp)])), (md 4, .inl (G.2 1, 256, .inr (.inl (vp_updL V (64 * a + b) v)))), (md 5, .inl (G.2 1, 256, .inr (.inl F))), (md 6, .inl (G.2 2, 256, .inl (upd T (64 * a + b) 1)))]) H := hP
  have hD : va_D A ([(md 0, .inr (2, [.int 0, .ref (md 1), .ref (md 2), .ref (md 3), .ref (md 4), .ref (md 5), .ref (md 6), .int rf, .int (nI dp)])), (md 4, .inl (G.2 1, 256, .inr (.inl (vp_updL V (64 * a + b) v)))), (md 5, .inl (G.2 1, 256, .inr (.inl F))), (md 6, .inl (G.2 2, 256, .inl (upd T (64 * a + b) 1)))]) := hD
  refine lv_aload_n hx hb d_MD_store_238 rfl (lv_at hl 5 rfl) ?_
  refine lv_dup hx hb d_MD_store_239 rfl ?_
  refine sx_get C0 hP 0 rfl rfl 7 (by decide) f_MD_38 rfl rfl d_MD_store_240 ?_
  refine lv_iload hx hb d_MD_store_243 (lv_at hl 0 rfl) ?_
  refine lv_iadd hx hb d_MD_store_245 ?_
  refine sx_put (ty := .int) C0 hP hD hS 0 rfl rfl 7 (by decide) f_MD_38 rfl rfl (by decide +kernel) rfl rfl (Nat.le_of_ble_eq_true rfl) d_MD_store_246 (fun H locs hP hD hS => ?_)
  have hP : va_P G.1 sx_cls ([(md 0, .inr (2, [.int 0, .ref (md 1), .ref (md 2), .ref (md 3), .ref (md 4), .ref (md 5), .ref (md 6), .int (rf + (p_given (F (64 * a + b)) (V (64 * a + b)) v)), .int (nI dp)])), (md 4, .inl (G.2 1, 256, .inr (.inl (vp_updL V (64 * a + b) v)))), (md 5, .inl (G.2 1, 256, .inr (.inl F))), (md 6, .inl (G.2 2, 256, .inl (upd T (64 * a + b) 1)))]) H := hP
  have hD : va_D A ([(md 0, .inr (2, [.int 0, .ref (md 1), .ref (md 2), .ref (md 3), .ref (md 4), .ref (md 5), .ref (md 6), .int (rf + (p_given (F (64 * a + b)) (V (64 * a + b)) v)), .int (nI dp)])), (md 4, .inl (G.2 1, 256, .inr (.inl (vp_updL V (64 * a + b) v)))), (md 5, .inl (G.2 1, 256, .inr (.inl F))), (md 6, .inl (G.2 2, 256, .inl (upd T (64 * a + b) 1)))]) := hD
  refine lv_iload hx hb d_MD_store_249 (lv_at hl 1 rfl) ?_
  exact sx_iret C0 hr hlk hS ⟨rfl, hP, hD⟩ d_MD_store_251
end SM2
end
section
/-! the Model with its kept rows: open, close, the constructor -/
abbrev wMF (G : sx_G) (md : Nat → Nat) (fl : Int32) (V F : Nat → Int64) (T : Nat → Int32) (rf : Int32) (dp : Nat) (KR : Nat → Int32) (K : Nat → Nat → Int64) (KT : Nat → Nat → Int32) : va_W := wM4 G md fl V F T rf dp ++ (wMg G md KR ++ wMr G md K KT)
section SXK
variable {G : sx_G} {md : Nat → Nat} {K : Nat → Nat → Int64} {KT : Nat → Nat → Int32} {X : va_W}
theorem sx_rowK (hX : X.length = 7) {d : Nat} (hd : d < 31) : (X ++ wMr G md K KT)[7 + d]? = some (md 1 + 1 + d, .inl (G.2 1, 256, .inr (.inl (K d)))) := by
  rw [List.getElem?_append_right (by omega), show 7 + d - X.length = d by omega]
  unfold wMr
  rw [List.getElem?_append_left (by simpa using hd), List.getElem?_map, List.getElem?_range hd]
  rfl
theorem sx_rowT (hX : X.length = 7) {d : Nat} (hd : d < 31) : (X ++ wMr G md K KT)[38 + d]? = some (md 2 + 1 + d, .inl (G.2 2, 256, .inl (KT d))) := by
  rw [List.getElem?_append_right (by omega), show 38 + d - X.length = 31 + d by omega]
  unfold wMr
  rw [List.getElem?_append_right (by simp), List.length_map, List.length_range, Nat.add_sub_cancel_left, List.getElem?_map, List.getElem?_range hd]
  rfl
theorem sx_rows {j : Nat} {q : Nat × va_E} (h : (wMr G md K KT)[j]? = some q) : (j < 31 ∧ q = (md 1 + 1 + j, .inl (G.2 1, 256, .inr (.inl (K j))))) ∨ ∃ d, d < 31 ∧ j = 31 + d ∧ q = (md 2 + 1 + d, .inl (G.2 2, 256, .inl (KT d))) := by
  unfold wMr at h
  by_cases hj : j < 31
  · rw [List.getElem?_append_left (by simpa using hj), List.getElem?_map, List.getElem?_range hj] at h
    exact Or.inl ⟨hj, (Option.some.inj h).symm⟩
  · rw [List.getElem?_append_right (by simpa using hj), List.length_map, List.length_range, List.getElem?_map] at h
    by_cases hj2 : j - 31 < 31
    · rw [List.getElem?_range hj2] at h
      exact Or.inr ⟨j - 31, hj2, by omega, (Option.some.inj h).symm⟩
    · rw [List.getElem?_eq_none (by simpa using hj2)] at h
      cases h
theorem sx_rowLen : (wMr G md K KT).length = 62 := by simp [wMr]
theorem sx_setK (hX : X.length = 7) {d : Nat} (hd : d < 31) (f : Nat → Int64) : (X ++ wMr G md K KT).set (7 + d) (md 1 + 1 + d, .inl (G.2 1, 256, .inr (.inl f))) = X ++ wMr G md (va_up K d f) KT := by
  apply List.ext_getElem?
  intro j
  by_cases hj : j = 7 + d
  · subst hj
    rw [List.getElem?_set_self (by rw [List.length_append, hX, sx_rowLen]; omega), sx_rowK hX hd, va_up_self]
  · rw [List.getElem?_set_ne (Ne.symm hj)]
    by_cases h7 : j < 7
    · rw [List.getElem?_append_left (by omega), List.getElem?_append_left (by omega)]
    · rcases Nat.lt_or_ge j 38 with h | h
      · obtain ⟨i, rfl⟩ : ∃ i, j = 7 + i := ⟨j - 7, by omega⟩
        rw [sx_rowK hX (by omega), sx_rowK hX (by omega), va_up_ne _ _ (by omega)]
      · rcases Nat.lt_or_ge j 69 with h2 | h2
        · obtain ⟨i, rfl⟩ : ∃ i, j = 38 + i := ⟨j - 38, by omega⟩
          rw [sx_rowT hX (by omega), sx_rowT hX (by omega)]
        · rw [List.getElem?_eq_none (by rw [List.length_append, hX, sx_rowLen]; omega), List.getElem?_eq_none (by rw [List.length_append, hX, sx_rowLen]; omega)]
theorem sx_setT (hX : X.length = 7) {d : Nat} (hd : d < 31) (f : Nat → Int32) : (X ++ wMr G md K KT).set (38 + d) (md 2 + 1 + d, .inl (G.2 2, 256, .inl f)) = X ++ wMr G md K (va_up KT d f) := by
  apply List.ext_getElem?
  intro j
  by_cases hj : j = 38 + d
  · subst hj
    rw [List.getElem?_set_self (by rw [List.length_append, hX, sx_rowLen]; omega), sx_rowT hX hd, va_up_self]
  · rw [List.getElem?_set_ne (Ne.symm hj)]
    by_cases h7 : j < 7
    · rw [List.getElem?_append_left (by omega), List.getElem?_append_left (by omega)]
    · rcases Nat.lt_or_ge j 38 with h | h
      · obtain ⟨i, rfl⟩ : ∃ i, j = 7 + i := ⟨j - 7, by omega⟩
        rw [sx_rowK hX (by omega), sx_rowK hX (by omega)]
      · rcases Nat.lt_or_ge j 69 with h2 | h2
        · obtain ⟨i, rfl⟩ : ∃ i, j = 38 + i := ⟨j - 38, by omega⟩
          rw [sx_rowT hX (by omega), sx_rowT hX (by omega), va_up_ne _ _ (by omega)]
        · rw [List.getElem?_eq_none (by rw [List.length_append, hX, sx_rowLen]; omega), List.getElem?_eq_none (by rw [List.length_append, hX, sx_rowLen]; omega)]
theorem sx_extK {H : Heap} {A : Nat → Prop} (hX : X.length = 7) {d : Nat} (hd : d < 31) {f : Nat → Int64} (h : ∀ j, j < 256 → K d j = f j) (hP : va_P G.1 sx_cls (X ++ wMr G md K KT) H) (hD : va_D A (X ++ wMr G md K KT)) : va_P G.1 sx_cls (X ++ wMr G md (va_up K d f) KT) H ∧ va_D A (X ++ wMr G md (va_up K d f) KT) := by
  rw [← sx_setK hX hd f]
  exact ⟨sx_extA (e1 := (G.2 1, 256, .inr (.inl f))) hP (sx_rowK hX hd) (sx_cellL h), hD.set (sx_rowK hX hd)⟩
theorem sx_extT {H : Heap} {A : Nat → Prop} (hX : X.length = 7) {d : Nat} (hd : d < 31) {f : Nat → Int32} (h : ∀ j, j < 256 → KT d j = f j) (hP : va_P G.1 sx_cls (X ++ wMr G md K KT) H) (hD : va_D A (X ++ wMr G md K KT)) : va_P G.1 sx_cls (X ++ wMr G md K (va_up KT d f)) H ∧ va_D A (X ++ wMr G md K (va_up KT d f)) := by
  rw [← sx_setT hX hd f]
  exact ⟨sx_extA (e1 := (G.2 2, 256, .inl f)) hP (sx_rowT hX hd) (sx_cellI h), hD.set (sx_rowT hX hd)⟩
variable {p : Program} {l : Launch} {e : Env} {R : Room} {s : State} {m : MethodId} {args : Array Value} {below : List Frame} {meth : Method} {c : Code} {H : Heap} {locs : List Loc} {cells slots : Nat} {Q : State → Prop} {cc : ByteArray} {nL : Nat} {own : String} {pc : Nat} {ls : Array Slot} {rest : List Value} {A : Nat → Prop}
theorem sx_lastK (C0 : sx_C p s m c cc nL own G) (hX : X.length = 7) (hP : va_P G.1 sx_cls (X ++ wMr G md K KT) H) (hD : va_D A (X ++ wMr G md K KT)) (hS : va_S A s.heap H locs) {d i : Nat} {v : Int64} (hd : d < 31) (hi : i < 256) (hdg : decode cc pc = .ok (.lastore, 1))
    (kk : ∀ (H1 : Heap) (locs1 : List Loc), va_P G.1 sx_cls (X ++ wMr G md (va_up K d (vp_updL (K d) i v)) KT) H1 → va_D A (X ++ wMr G md (va_up K d (vp_updL (K d) i v)) KT) → va_S A s.heap H1 locs1 → W p l e R s m args below meth c H1 locs1 cells slots Q (F0 m (pc + 1) ls rest)) : W p l e R s m args below meth c H locs cells slots Q (F0 m pc ls (.long v :: .int (nI i) :: .ref (md 1 + 1 + d) :: rest)) := by
  refine sx_last (i := i) C0 hP hD hS (7 + d) (sx_rowK hX hd) rfl hi (by decide) hdg (fun H1 locs1 h1 h2 h3 => ?_)
  rw [sx_setK hX hd] at h1 h2
  exact kk H1 locs1 h1 h2 h3
theorem sx_zastT (C0 : sx_C p s m c cc nL own G) (hX : X.length = 7) (hP : va_P G.1 sx_cls (X ++ wMr G md K KT) H) (hD : va_D A (X ++ wMr G md K KT)) (hS : va_S A s.heap H locs) {d i : Nat} {v : Int32} (hz : vp_nar .boolean v = v) (hd : d < 31) (hi : i < 256) (hdg : decode cc pc = .ok (.bastore, 1))
    (kk : ∀ (H1 : Heap) (locs1 : List Loc), va_P G.1 sx_cls (X ++ wMr G md K (va_up KT d (upd (KT d) i v))) H1 → va_D A (X ++ wMr G md K (va_up KT d (upd (KT d) i v))) → va_S A s.heap H1 locs1 → W p l e R s m args below meth c H1 locs1 cells slots Q (F0 m (pc + 1) ls rest)) : W p l e R s m args below meth c H locs cells slots Q (F0 m pc ls (.int v :: .int (nI i) :: .ref (md 2 + 1 + d) :: rest)) := by
  refine sx_zast (i := i) C0 hz hP hD hS (38 + d) (sx_rowT hX hd) rfl hi (by decide) hdg (fun H1 locs1 h1 h2 h3 => ?_)
  rw [sx_setT hX hd] at h1 h2
  exact kk H1 locs1 h1 h2 h3
end SXK
section SM3
variable {l : Launch} {G : sx_G} {md : Nat → Nat} {fl : Int32} {V F : Nat → Int64} {T : Nat → Int32} {rf : Int32} {dp : Nat} {KR : Nat → Int32} {K : Nat → Nat → Int64} {KT : Nat → Nat → Int32}
theorem c_MD_open9 (hd : dp = 30) : sx_Ctr l y_MD_open w_MD_open (sx_rm 1 0 0 22) G [.ref (md 0)] (wMF G md fl V F T rf dp KR K KT) (sx_is G (some (.int 0)) (wMF G md 1 V F T rf dp KR K KT)) := by
  subst hd
  refine sx_Ctr.of (by decide +kernel) (Nat.le_of_ble_eq_true rfl) ?_
  intro p e s m below meth c9 ls A C0 hr hlk hnm hl hP hD hA hS
  have C0 : sx_C p s m c9 b_MD_open 2 sx_MD G := C0
  have hx := C0.1
  have hb := C0.2.1
  have hl : lv_has ls 2 [(0, .ref (md 0))] := hl
  refine lv_aload_n hx hb d_MD_open_0 rfl (lv_at hl 0 rfl) ?_
  refine lv_iconst (v := 0) hx hb d_MD_open_1 (by decide) ?_
  refine sx_put (ty := .int) C0 hP hD hS 0 rfl rfl 0 (by decide) f_MD_34 rfl rfl (by decide +kernel) rfl rfl (Nat.le_of_ble_eq_true rfl) d_MD_open_2 (fun H locs hP hD hS => ?_)
  have hP : va_P G.1 sx_cls ([(md 0, .inr (2, [.int 0, .ref (md 1), .ref (md 2), .ref (md 3), .ref (md 4), .ref (md 5), .ref (md 6), .int rf, .int (nI 30)])), (md 4, .inl (G.2 1, 256, .inr (.inl V))), (md 5, .inl (G.2 1, 256, .inr (.inl F))), (md 6, .inl (G.2 2, 256, .inl T)), (md 1, .inl (G.2 3, 31, .inr (.inr (.inr (.inr (fun i => some (md 1 + 1 + i))))))), (md 2, .inl (G.2 4, 31, .inr (.inr (.inr (.inr (fun i => some (md 2 + 1 + i))))))), (md 3, .inl (G.2 0, 31, .inl KR))] ++ wMr G md K KT) H := hP
  have hD : va_D A ([(md 0, .inr (2, [.int 0, .ref (md 1), .ref (md 2), .ref (md 3), .ref (md 4), .ref (md 5), .ref (md 6), .int rf, .int (nI 30)])), (md 4, .inl (G.2 1, 256, .inr (.inl V))), (md 5, .inl (G.2 1, 256, .inr (.inl F))), (md 6, .inl (G.2 2, 256, .inl T)), (md 1, .inl (G.2 3, 31, .inr (.inr (.inr (.inr (fun i => some (md 1 + 1 + i))))))), (md 2, .inl (G.2 4, 31, .inr (.inr (.inr (.inr (fun i => some (md 2 + 1 + i))))))), (md 3, .inl (G.2 0, 31, .inl KR))] ++ wMr G md K KT) := hD
  refine lv_aload_n hx hb d_MD_open_5 rfl (lv_at hl 0 rfl) ?_
  refine sx_get C0 hP 0 rfl rfl 8 (by decide) f_MD_41 rfl rfl d_MD_open_6 ?_
  refine lv_bipush (v := nI 30) hx hb d_MD_open_9 (by decide +kernel) ?_
  refine lv_icmp_ne (tgt := 20) hx hb d_MD_open_11 (by decide) (fun z => absurd (rfl) z) (fun _ => ?_)
  refine lv_aload_n hx hb d_MD_open_14 rfl (lv_at hl 0 rfl) ?_
  refine lv_iconst (v := 1) hx hb d_MD_open_15 (by decide) ?_
  refine sx_cV (As := [.int 1]) (rest := []) (wa := []) (wb := (wMg G md KR ++ wMr G md K KT)) (k0 := 0) C0 (c_MD_fail (fl := 0) (V := V) (F := F) (T := T) (rf := rf) (dp := 30)) q_MD_48 i_MD_fail ⟨Nat.le_of_ble_eq_true rfl, Nat.le_of_ble_eq_true rfl⟩ rfl rfl rfl hP hD hS hA hl.1 rfl (Nat.zero_le _) d_MD_open_16 ⟨Nat.le_of_ble_eq_true rfl, Nat.le_of_ble_eq_true rfl⟩ (fun r H locs hq hj hS => ?_)
  obtain ⟨rfl, hP1, hD1⟩ := hq
  obtain ⟨hP, hD⟩ := hj _ hP1 hD1
  have hP : va_P G.1 sx_cls ([(md 0, .inr (2, [.int 1, .ref (md 1), .ref (md 2), .ref (md 3), .ref (md 4), .ref (md 5), .ref (md 6), .int rf, .int (nI 30)])), (md 4, .inl (G.2 1, 256, .inr (.inl V))), (md 5, .inl (G.2 1, 256, .inr (.inl F))), (md 6, .inl (G.2 2, 256, .inl T)), (md 1, .inl (G.2 3, 31, .inr (.inr (.inr (.inr (fun i => some (md 1 + 1 + i))))))), (md 2, .inl (G.2 4, 31, .inr (.inr (.inr (.inr (fun i => some (md 2 + 1 + i))))))), (md 3, .inl (G.2 0, 31, .inl KR))] ++ wMr G md K KT) H := hP
  have hD : va_D A ([(md 0, .inr (2, [.int 1, .ref (md 1), .ref (md 2), .ref (md 3), .ref (md 4), .ref (md 5), .ref (md 6), .int rf, .int (nI 30)])), (md 4, .inl (G.2 1, 256, .inr (.inl V))), (md 5, .inl (G.2 1, 256, .inr (.inl F))), (md 6, .inl (G.2 2, 256, .inl T)), (md 1, .inl (G.2 3, 31, .inr (.inr (.inr (.inr (fun i => some (md 1 + 1 + i))))))), (md 2, .inl (G.2 4, 31, .inr (.inr (.inr (.inr (fun i => some (md 2 + 1 + i))))))), (md 3, .inl (G.2 0, 31, .inl KR))] ++ wMr G md K KT) := hD
  exact sx_iret C0 hr hlk hS ⟨rfl, hP, hD⟩ d_MD_open_19
theorem c_MD_open0 (hd : dp < 30) (hB : ∀ i, i < 256 → vp_nar .boolean (T i) = T i) : sx_Ctr l y_MD_open w_MD_open (sx_rm 1 0 0 22) G [.ref (md 0)] (wMF G md fl V F T rf dp KR K KT) (sx_is G (some (.int (nI (dp + 1)))) (wMF G md 0 V F T rf (dp + 1) (upd KR (dp + 1) rf) (va_up K (dp + 1) V) (va_up KT (dp + 1) T))) := by
  refine sx_Ctr.of (by decide +kernel) (Nat.le_of_ble_eq_true rfl) ?_
  intro p e s m below meth c9 ls A C0 hr hlk hnm hl hP hD hA hS
  have C0 : sx_C p s m c9 b_MD_open 2 sx_MD G := C0
  have hx := C0.1
  have hb := C0.2.1
  have hl : lv_has ls 2 [(0, .ref (md 0))] := hl
  have loop : ∀ (k i : Nat) (ls : Array Slot) (H : Heap) (locs : List Loc), i + k = 256 → lv_has ls 2 [(1, .int (nI i)), (0, .ref (md 0))] → va_P G.1 sx_cls (wMF G md 0 V F T rf (dp + 1) KR (va_up K (dp + 1) (p_mix V (K (dp + 1)) i)) (va_up KT (dp + 1) (p_mix T (KT (dp + 1)) i))) H → va_D A (wMF G md 0 V F T rf (dp + 1) KR (va_up K (dp + 1) (p_mix V (K (dp + 1)) i)) (va_up KT (dp + 1) (p_mix T (KT (dp + 1)) i))) → va_S A s.heap H locs → W p l e (sx_rm 1 0 0 22) s m ([.ref (md 0)] : List Value).toArray below meth c9 H locs 0 0 (MQ below (sx_Q (sx_is G (some (.int (nI (dp + 1)))) (wMF G md 0 V F T rf (dp + 1) (upd KR (dp + 1) rf) (va_up K (dp + 1) V) (va_up KT (dp + 1) T))) A) ([.ref (md 0)] : List Value).toArray s 0 0 A) (F0 m 32 ls []) := by
    intro k
    induction k with
    | zero =>
      intro i ls H locs hi hl hP hD hS
      have e1 : i = 256 := hi
      subst e1
      have hP : va_P G.1 sx_cls ([(md 0, .inr (2, [.int 0, .ref (md 1), .ref (md 2), .ref (md 3), .ref (md 4), .ref (md 5), .ref (md 6), .int rf, .int (nI (dp + 1))])), (md 4, .inl (G.2 1, 256, .inr (.inl V))), (md 5, .inl (G.2 1, 256, .inr (.inl F))), (md 6, .inl (G.2 2, 256, .inl T)), (md 1, .inl (G.2 3, 31, .inr (.inr (.inr (.inr (fun i => some (md 1 + 1 + i))))))), (md 2, .inl (G.2 4, 31, .inr (.inr (.inr (.inr (fun i => some (md 2 + 1 + i))))))), (md 3, .inl (G.2 0, 31, .inl KR))] ++ wMr G md (va_up K (dp + 1) (p_mix V (K (dp + 1)) 256)) (va_up KT (dp + 1) (p_mix T (KT (dp + 1)) 256))) H := hP
      have hD : va_D A ([(md 0, .inr (2, [.int 0, .ref (md 1), .ref (md 2), .ref (md 3), .ref (md 4), .ref (md 5), .ref (md 6), .int rf, .int (nI (dp + 1))])), (md 4, .inl (G.2 1, 256, .inr (.inl V))), (md 5, .inl (G.2 1, 256, .inr (.inl F))), (md 6, .inl (G.2 2, 256, .inl T)), (md 1, .inl (G.2 3, 31, .inr (.inr (.inr (.inr (fun i => some (md 1 + 1 + i))))))), (md 2, .inl (G.2 4, 31, .inr (.inr (.inr (.inr (fun i => some (md 2 + 1 + i))))))), (md 3, .inl (G.2 0, 31, .inl KR))] ++ wMr G md (va_up K (dp + 1) (p_mix V (K (dp + 1)) 256)) (va_up KT (dp + 1) (p_mix T (KT (dp + 1)) 256))) := hD
      refine lv_iload_n hx hb d_MD_open_32 rfl (lv_at hl 0 rfl) ?_
      refine lv_sipush (v := nI 256) hx hb d_MD_open_33 (by decide +kernel) ?_
      refine lv_icmp_ge (tgt := 79) hx hb d_MD_open_36 (by decide) (fun _ => ?_) (fun z => absurd (Int32.le_refl _) z)
      obtain ⟨hP, hD⟩ := sx_extK (d := dp + 1) (f := V) rfl (by omega) (fun j hj => by rw [va_up_self]; exact p_mix_lt hj) hP hD
      obtain ⟨hP, hD⟩ := sx_extT (d := dp + 1) (f := T) rfl (by omega) (fun j hj => by rw [va_up_self]; exact p_mix_lt hj) hP hD
      rw [bx_uu, bx_uu] at hP hD
      have hP : va_P G.1 sx_cls ([(md 0, .inr (2, [.int 0, .ref (md 1), .ref (md 2), .ref (md 3), .ref (md 4), .ref (md 5), .ref (md 6), .int rf, .int (nI (dp + 1))])), (md 4, .inl (G.2 1, 256, .inr (.inl V))), (md 5, .inl (G.2 1, 256, .inr (.inl F))), (md 6, .inl (G.2 2, 256, .inl T)), (md 1, .inl (G.2 3, 31, .inr (.inr (.inr (.inr (fun i => some (md 1 + 1 + i))))))), (md 2, .inl (G.2 4, 31, .inr (.inr (.inr (.inr (fun i => some (md 2 + 1 + i))))))), (md 3, .inl (G.2 0, 31, .inl KR))] ++ wMr G md (va_up K (dp + 1) V) (va_up KT (dp + 1) T)) H := hP
      have hD : va_D A ([(md 0, .inr (2, [.int 0, .ref (md 1), .ref (md 2), .ref (md 3), .ref (md 4), .ref (md 5), .ref (md 6), .int rf, .int (nI (dp + 1))])), (md 4, .inl (G.2 1, 256, .inr (.inl V))), (md 5, .inl (G.2 1, 256, .inr (.inl F))), (md 6, .inl (G.2 2, 256, .inl T)), (md 1, .inl (G.2 3, 31, .inr (.inr (.inr (.inr (fun i => some (md 1 + 1 + i))))))), (md 2, .inl (G.2 4, 31, .inr (.inr (.inr (.inr (fun i => some (md 2 + 1 + i))))))), (md 3, .inl (G.2 0, 31, .inl KR))] ++ wMr G md (va_up K (dp + 1) V) (va_up KT (dp + 1) T)) := hD
      refine lv_aload_n hx hb d_MD_open_79 rfl (lv_at hl 1 rfl) ?_
      refine sx_get C0 hP 0 rfl rfl 3 (by decide) f_MD_19 rfl rfl d_MD_open_80 ?_
      refine lv_aload_n hx hb d_MD_open_83 rfl (lv_at hl 1 rfl) ?_
      refine sx_get C0 hP 0 rfl rfl 8 (by decide) f_MD_41 rfl rfl d_MD_open_84 ?_
      refine lv_aload_n hx hb d_MD_open_87 rfl (lv_at hl 1 rfl) ?_
      refine sx_get C0 hP 0 rfl rfl 7 (by decide) f_MD_38 rfl rfl d_MD_open_88 ?_
      refine sx_iast (i := dp + 1) C0 hP hD hS 6 rfl rfl (by omega) (by decide) d_MD_open_91 (fun H locs hP hD hS => ?_)
      have hP : va_P G.1 sx_cls ([(md 0, .inr (2, [.int 0, .ref (md 1), .ref (md 2), .ref (md 3), .ref (md 4), .ref (md 5), .ref (md 6), .int rf, .int (nI (dp + 1))])), (md 4, .inl (G.2 1, 256, .inr (.inl V))), (md 5, .inl (G.2 1, 256, .inr (.inl F))), (md 6, .inl (G.2 2, 256, .inl T)), (md 1, .inl (G.2 3, 31, .inr (.inr (.inr (.inr (fun i => some (md 1 + 1 + i))))))), (md 2, .inl (G.2 4, 31, .inr (.inr (.inr (.inr (fun i => some (md 2 + 1 + i))))))), (md 3, .inl (G.2 0, 31, .inl (upd KR (dp + 1) rf)))] ++ wMr G md (va_up K (dp + 1) V) (va_up KT (dp + 1) T)) H := hP
      have hD : va_D A ([(md 0, .inr (2, [.int 0, .ref (md 1), .ref (md 2), .ref (md 3), .ref (md 4), .ref (md 5), .ref (md 6), .int rf, .int (nI (dp + 1))])), (md 4, .inl (G.2 1, 256, .inr (.inl V))), (md 5, .inl (G.2 1, 256, .inr (.inl F))), (md 6, .inl (G.2 2, 256, .inl T)), (md 1, .inl (G.2 3, 31, .inr (.inr (.inr (.inr (fun i => some (md 1 + 1 + i))))))), (md 2, .inl (G.2 4, 31, .inr (.inr (.inr (.inr (fun i => some (md 2 + 1 + i))))))), (md 3, .inl (G.2 0, 31, .inl (upd KR (dp + 1) rf)))] ++ wMr G md (va_up K (dp + 1) V) (va_up KT (dp + 1) T)) := hD
      refine lv_aload_n hx hb d_MD_open_92 rfl (lv_at hl 1 rfl) ?_
      refine sx_get C0 hP 0 rfl rfl 8 (by decide) f_MD_41 rfl rfl d_MD_open_93 ?_
      exact sx_iret C0 hr hlk hS ⟨rfl, hP, hD⟩ d_MD_open_96
    | succ k ih =>
      intro i ls H locs hi hl hP hD hS
      have hP : va_P G.1 sx_cls ([(md 0, .inr (2, [.int 0, .ref (md 1), .ref (md 2), .ref (md 3), .ref (md 4), .ref (md 5), .ref (md 6), .int rf, .int (nI (dp + 1))])), (md 4, .inl (G.2 1, 256, .inr (.inl V))), (md 5, .inl (G.2 1, 256, .inr (.inl F))), (md 6, .inl (G.2 2, 256, .inl T)), (md 1, .inl (G.2 3, 31, .inr (.inr (.inr (.inr (fun i => some (md 1 + 1 + i))))))), (md 2, .inl (G.2 4, 31, .inr (.inr (.inr (.inr (fun i => some (md 2 + 1 + i))))))), (md 3, .inl (G.2 0, 31, .inl KR))] ++ wMr G md (va_up K (dp + 1) (p_mix V (K (dp + 1)) i)) (va_up KT (dp + 1) (p_mix T (KT (dp + 1)) i))) H := hP
      have hD : va_D A ([(md 0, .inr (2, [.int 0, .ref (md 1), .ref (md 2), .ref (md 3), .ref (md 4), .ref (md 5), .ref (md 6), .int rf, .int (nI (dp + 1))])), (md 4, .inl (G.2 1, 256, .inr (.inl V))), (md 5, .inl (G.2 1, 256, .inr (.inl F))), (md 6, .inl (G.2 2, 256, .inl T)), (md 1, .inl (G.2 3, 31, .inr (.inr (.inr (.inr (fun i => some (md 1 + 1 + i))))))), (md 2, .inl (G.2 4, 31, .inr (.inr (.inr (.inr (fun i => some (md 2 + 1 + i))))))), (md 3, .inl (G.2 0, 31, .inl KR))] ++ wMr G md (va_up K (dp + 1) (p_mix V (K (dp + 1)) i)) (va_up KT (dp + 1) (p_mix T (KT (dp + 1)) i))) := hD
      refine lv_iload_n hx hb d_MD_open_32 rfl (lv_at hl 0 rfl) ?_
      refine lv_sipush (v := nI 256) hx hb d_MD_open_33 (by decide +kernel) ?_
      refine lv_icmp_ge (tgt := 79) hx hb d_MD_open_36 (by decide) (fun z => absurd z (nI_ge (show i < 256 by omega) (by decide))) (fun _ => ?_)
      refine lv_aload_n hx hb d_MD_open_39 rfl (lv_at hl 1 rfl) ?_
      refine sx_get C0 hP 0 rfl rfl 1 (by decide) f_MD_9 rfl rfl d_MD_open_40 ?_
      refine lv_aload_n hx hb d_MD_open_43 rfl (lv_at hl 1 rfl) ?_
      refine sx_get C0 hP 0 rfl rfl 8 (by decide) f_MD_41 rfl rfl d_MD_open_44 ?_
      refine sx_aald (t0 := 3) (i := dp + 1) (v := md 1 + 1 + (dp + 1)) C0 hP 4 rfl rfl rfl (by omega) (by decide) rfl d_MD_open_47 ?_
      refine lv_iload_n hx hb d_MD_open_48 rfl (lv_at hl 0 rfl) ?_
      refine lv_aload_n hx hb d_MD_open_49 rfl (lv_at hl 1 rfl) ?_
      refine sx_get C0 hP 0 rfl rfl 4 (by decide) f_MD_23 rfl rfl d_MD_open_50 ?_
      refine lv_iload_n hx hb d_MD_open_53 rfl (lv_at hl 0 rfl) ?_
      refine sx_lald (i := i) (v := V i) C0 hP 1 rfl rfl (show i < 256 by omega) (by decide) rfl d_MD_open_54 ?_
      refine sx_lastK C0 rfl hP hD hS (show dp + 1 < 31 by omega) (show i < 256 by omega) d_MD_open_55 (fun H locs hP hD hS => ?_)
      rw [va_up_self, bx_uu, p_mixL] at hP hD
      have hP : va_P G.1 sx_cls ([(md 0, .inr (2, [.int 0, .ref (md 1), .ref (md 2), .ref (md 3), .ref (md 4), .ref (md 5), .ref (md 6), .int rf, .int (nI (dp + 1))])), (md 4, .inl (G.2 1, 256, .inr (.inl V))), (md 5, .inl (G.2 1, 256, .inr (.inl F))), (md 6, .inl (G.2 2, 256, .inl T)), (md 1, .inl (G.2 3, 31, .inr (.inr (.inr (.inr (fun i => some (md 1 + 1 + i))))))), (md 2, .inl (G.2 4, 31, .inr (.inr (.inr (.inr (fun i => some (md 2 + 1 + i))))))), (md 3, .inl (G.2 0, 31, .inl KR))] ++ wMr G md (va_up K (dp + 1) (p_mix V (K (dp + 1)) (i + 1))) (va_up KT (dp + 1) (p_mix T (KT (dp + 1)) i))) H := hP
      have hD : va_D A ([(md 0, .inr (2, [.int 0, .ref (md 1), .ref (md 2), .ref (md 3), .ref (md 4), .ref (md 5), .ref (md 6), .int rf, .int (nI (dp + 1))])), (md 4, .inl (G.2 1, 256, .inr (.inl V))), (md 5, .inl (G.2 1, 256, .inr (.inl F))), (md 6, .inl (G.2 2, 256, .inl T)), (md 1, .inl (G.2 3, 31, .inr (.inr (.inr (.inr (fun i => some (md 1 + 1 + i))))))), (md 2, .inl (G.2 4, 31, .inr (.inr (.inr (.inr (fun i => some (md 2 + 1 + i))))))), (md 3, .inl (G.2 0, 31, .inl KR))] ++ wMr G md (va_up K (dp + 1) (p_mix V (K (dp + 1)) (i + 1))) (va_up KT (dp + 1) (p_mix T (KT (dp + 1)) i))) := hD
      refine lv_aload_n hx hb d_MD_open_56 rfl (lv_at hl 1 rfl) ?_
      refine sx_get C0 hP 0 rfl rfl 2 (by decide) f_MD_16 rfl rfl d_MD_open_57 ?_
      refine lv_aload_n hx hb d_MD_open_60 rfl (lv_at hl 1 rfl) ?_
      refine sx_get C0 hP 0 rfl rfl 8 (by decide) f_MD_41 rfl rfl d_MD_open_61 ?_
      refine sx_aald (t0 := 4) (i := dp + 1) (v := md 2 + 1 + (dp + 1)) C0 hP 5 rfl rfl rfl (by omega) (by decide) rfl d_MD_open_64 ?_
      refine lv_iload_n hx hb d_MD_open_65 rfl (lv_at hl 0 rfl) ?_
      refine lv_aload_n hx hb d_MD_open_66 rfl (lv_at hl 1 rfl) ?_
      refine sx_get C0 hP 0 rfl rfl 6 (by decide) f_MD_30 rfl rfl d_MD_open_67 ?_
      refine lv_iload_n hx hb d_MD_open_70 rfl (lv_at hl 0 rfl) ?_
      refine sx_zald (i := i) (v := T i) C0 hP 3 rfl rfl (show i < 256 by omega) (by decide) rfl d_MD_open_71 ?_
      refine sx_zastT C0 rfl hP hD hS (hB i (by omega)) (show dp + 1 < 31 by omega) (show i < 256 by omega) d_MD_open_72 (fun H locs hP hD hS => ?_)
      rw [va_up_self, bx_uu, p_mixI] at hP hD
      have hP : va_P G.1 sx_cls ([(md 0, .inr (2, [.int 0, .ref (md 1), .ref (md 2), .ref (md 3), .ref (md 4), .ref (md 5), .ref (md 6), .int rf, .int (nI (dp + 1))])), (md 4, .inl (G.2 1, 256, .inr (.inl V))), (md 5, .inl (G.2 1, 256, .inr (.inl F))), (md 6, .inl (G.2 2, 256, .inl T)), (md 1, .inl (G.2 3, 31, .inr (.inr (.inr (.inr (fun i => some (md 1 + 1 + i))))))), (md 2, .inl (G.2 4, 31, .inr (.inr (.inr (.inr (fun i => some (md 2 + 1 + i))))))), (md 3, .inl (G.2 0, 31, .inl KR))] ++ wMr G md (va_up K (dp + 1) (p_mix V (K (dp + 1)) (i + 1))) (va_up KT (dp + 1) (p_mix T (KT (dp + 1)) (i + 1)))) H := hP
      have hD : va_D A ([(md 0, .inr (2, [.int 0, .ref (md 1), .ref (md 2), .ref (md 3), .ref (md 4), .ref (md 5), .ref (md 6), .int rf, .int (nI (dp + 1))])), (md 4, .inl (G.2 1, 256, .inr (.inl V))), (md 5, .inl (G.2 1, 256, .inr (.inl F))), (md 6, .inl (G.2 2, 256, .inl T)), (md 1, .inl (G.2 3, 31, .inr (.inr (.inr (.inr (fun i => some (md 1 + 1 + i))))))), (md 2, .inl (G.2 4, 31, .inr (.inr (.inr (.inr (fun i => some (md 2 + 1 + i))))))), (md 3, .inl (G.2 0, 31, .inl KR))] ++ wMr G md (va_up K (dp + 1) (p_mix V (K (dp + 1)) (i + 1))) (va_up KT (dp + 1) (p_mix T (KT (dp + 1)) (i + 1)))) := hD
      refine lv_iinc (k := 0) (v := nI (i + 1)) hx hb d_MD_open_73 hl rfl (nI_1 i) (by decide) rfl (fun ls hl => ?_)
      have hl : lv_has ls 2 [(1, .int (nI (i + 1))), (0, .ref (md 0))] := hl
      refine lv_goto (tgt := 32) hx hb d_MD_open_76 (by decide) ?_
      exact ih (i + 1) ls H locs (by omega) hl hP hD hS
  refine lv_aload_n hx hb d_MD_open_0 rfl (lv_at hl 0 rfl) ?_
  refine lv_iconst (v := 0) hx hb d_MD_open_1 (by decide) ?_
  refine sx_put (ty := .int) C0 hP hD hS 0 rfl rfl 0 (by decide) f_MD_34 rfl rfl (by decide +kernel) rfl rfl (Nat.le_of_ble_eq_true rfl) d_MD_open_2 (fun H locs hP hD hS => ?_)
  have hP : va_P G.1 sx_cls ([(md 0, .inr (2, [.int 0, .ref (md 1), .ref (md 2), .ref (md 3), .ref (md 4), .ref (md 5), .ref (md 6), .int rf, .int (nI dp)])), (md 4, .inl (G.2 1, 256, .inr (.inl V))), (md 5, .inl (G.2 1, 256, .inr (.inl F))), (md 6, .inl (G.2 2, 256, .inl T)), (md 1, .inl (G.2 3, 31, .inr (.inr (.inr (.inr (fun i => some (md 1 + 1 + i))))))), (md 2, .inl (G.2 4, 31, .inr (.inr (.inr (.inr (fun i => some (md 2 + 1 + i))))))), (md 3, .inl (G.2 0, 31, .inl KR))] ++ wMr G md K KT) H := hP
  have hD : va_D A ([(md 0, .inr (2, [.int 0, .ref (md 1), .ref (md 2), .ref (md 3), .ref (md 4), .ref (md 5), .ref (md 6), .int rf, .int (nI dp)])), (md 4, .inl (G.2 1, 256, .inr (.inl V))), (md 5, .inl (G.2 1, 256, .inr (.inl F))), (md 6, .inl (G.2 2, 256, .inl T)), (md 1, .inl (G.2 3, 31, .inr (.inr (.inr (.inr (fun i => some (md 1 + 1 + i))))))), (md 2, .inl (G.2 4, 31, .inr (.inr (.inr (.inr (fun i => some (md 2 + 1 + i))))))), (md 3, .inl (G.2 0, 31, .inl KR))] ++ wMr G md K KT) := hD
  refine lv_aload_n hx hb d_MD_open_5 rfl (lv_at hl 0 rfl) ?_
  refine sx_get C0 hP 0 rfl rfl 8 (by decide) f_MD_41 rfl rfl d_MD_open_6 ?_
  refine lv_bipush (v := nI 30) hx hb d_MD_open_9 (by decide +kernel) ?_
  refine lv_icmp_ne (tgt := 20) hx hb d_MD_open_11 (by decide) (fun _ => ?_) (fun z => absurd z (fun z => by have := (nI_eq (by omega) (by decide)).mp z; omega))
  refine lv_aload_n hx hb d_MD_open_20 rfl (lv_at hl 0 rfl) ?_
  refine lv_dup hx hb d_MD_open_21 rfl ?_
  refine sx_get C0 hP 0 rfl rfl 8 (by decide) f_MD_41 rfl rfl d_MD_open_22 ?_
  refine lv_iconst (v := 1) hx hb d_MD_open_25 (by decide) ?_
  refine lv_iadd hx hb d_MD_open_26 ?_
  refine sx_topi (y := nI (dp + 1)) (nI_1 dp) ?_
  refine sx_put (ty := .int) C0 hP hD hS 0 rfl rfl 8 (by decide) f_MD_41 rfl rfl (by decide +kernel) rfl rfl (Nat.le_of_ble_eq_true rfl) d_MD_open_27 (fun H locs hP hD hS => ?_)
  have hP : va_P G.1 sx_cls ([(md 0, .inr (2, [.int 0, .ref (md 1), .ref (md 2), .ref (md 3), .ref (md 4), .ref (md 5), .ref (md 6), .int rf, .int (nI (dp + 1))])), (md 4, .inl (G.2 1, 256, .inr (.inl V))), (md 5, .inl (G.2 1, 256, .inr (.inl F))), (md 6, .inl (G.2 2, 256, .inl T)), (md 1, .inl (G.2 3, 31, .inr (.inr (.inr (.inr (fun i => some (md 1 + 1 + i))))))), (md 2, .inl (G.2 4, 31, .inr (.inr (.inr (.inr (fun i => some (md 2 + 1 + i))))))), (md 3, .inl (G.2 0, 31, .inl KR))] ++ wMr G md K KT) H := hP
  have hD : va_D A ([(md 0, .inr (2, [.int 0, .ref (md 1), .ref (md 2), .ref (md 3), .ref (md 4), .ref (md 5), .ref (md 6), .int rf, .int (nI (dp + 1))])), (md 4, .inl (G.2 1, 256, .inr (.inl V))), (md 5, .inl (G.2 1, 256, .inr (.inl F))), (md 6, .inl (G.2 2, 256, .inl T)), (md 1, .inl (G.2 3, 31, .inr (.inr (.inr (.inr (fun i => some (md 1 + 1 + i))))))), (md 2, .inl (G.2 4, 31, .inr (.inr (.inr (.inr (fun i => some (md 2 + 1 + i))))))), (md 3, .inl (G.2 0, 31, .inl KR))] ++ wMr G md K KT) := hD
  refine lv_iconst (v := nI 0) hx hb d_MD_open_30 (by decide +kernel) ?_
  refine lv_istore_n hx hb d_MD_open_31 rfl hl (by decide) rfl (fun ls hl => ?_)
  have hl : lv_has ls 2 [(1, .int (nI 0)), (0, .ref (md 0))] := hl
  have eK : va_up K (dp + 1) (p_mix V (K (dp + 1)) 0) = K := by
    rw [p_mix_0]
    funext j
    by_cases h : j = dp + 1
    · subst h; exact va_up_self _ _ _
    · exact va_up_ne _ _ h
  have eT : va_up KT (dp + 1) (p_mix T (KT (dp + 1)) 0) = KT := by
    rw [p_mix_0]
    funext j
    by_cases h : j = dp + 1
    · subst h; exact va_up_self _ _ _
    · exact va_up_ne _ _ h
  exact loop 256 0 ls H _ rfl hl (by rw [eK, eT]; exact hP) (by rw [eK, eT]; exact hD) hS
theorem c_MD_close9 {g : Int32} (hd : dp = 0) : sx_Ctr l y_MD_close w_MD_close (sx_rm 1 0 0 22) G [.ref (md 0), .int g] (wMF G md fl V F T rf dp KR K KT) (sx_is G (some (.int 0)) (wMF G md 1 V F T rf dp KR K KT)) := by
  subst hd
  refine sx_Ctr.of (by decide +kernel) (Nat.le_of_ble_eq_true rfl) ?_
  intro p e s m below meth c9 ls A C0 hr hlk hnm hl hP hD hA hS
  have C0 : sx_C p s m c9 b_MD_close 3 sx_MD G := C0
  have hx := C0.1
  have hb := C0.2.1
  have hl : lv_has ls 3 [(0, .ref (md 0)), (1, .int g)] := hl
  refine lv_aload_n hx hb d_MD_close_0 rfl (lv_at hl 0 rfl) ?_
  refine lv_iconst (v := 0) hx hb d_MD_close_1 (by decide) ?_
  refine sx_put (ty := .int) C0 hP hD hS 0 rfl rfl 0 (by decide) f_MD_34 rfl rfl (by decide +kernel) rfl rfl (Nat.le_of_ble_eq_true rfl) d_MD_close_2 (fun H locs hP hD hS => ?_)
  have hP : va_P G.1 sx_cls ([(md 0, .inr (2, [.int 0, .ref (md 1), .ref (md 2), .ref (md 3), .ref (md 4), .ref (md 5), .ref (md 6), .int rf, .int (nI 0)])), (md 4, .inl (G.2 1, 256, .inr (.inl V))), (md 5, .inl (G.2 1, 256, .inr (.inl F))), (md 6, .inl (G.2 2, 256, .inl T)), (md 1, .inl (G.2 3, 31, .inr (.inr (.inr (.inr (fun i => some (md 1 + 1 + i))))))), (md 2, .inl (G.2 4, 31, .inr (.inr (.inr (.inr (fun i => some (md 2 + 1 + i))))))), (md 3, .inl (G.2 0, 31, .inl KR))] ++ wMr G md K KT) H := hP
  have hD : va_D A ([(md 0, .inr (2, [.int 0, .ref (md 1), .ref (md 2), .ref (md 3), .ref (md 4), .ref (md 5), .ref (md 6), .int rf, .int (nI 0)])), (md 4, .inl (G.2 1, 256, .inr (.inl V))), (md 5, .inl (G.2 1, 256, .inr (.inl F))), (md 6, .inl (G.2 2, 256, .inl T)), (md 1, .inl (G.2 3, 31, .inr (.inr (.inr (.inr (fun i => some (md 1 + 1 + i))))))), (md 2, .inl (G.2 4, 31, .inr (.inr (.inr (.inr (fun i => some (md 2 + 1 + i))))))), (md 3, .inl (G.2 0, 31, .inl KR))] ++ wMr G md K KT) := hD
  refine lv_aload_n hx hb d_MD_close_5 rfl (lv_at hl 0 rfl) ?_
  refine sx_get C0 hP 0 rfl rfl 8 (by decide) f_MD_41 rfl rfl d_MD_close_6 ?_
  refine lv_if_ne (tgt := 18) hx hb d_MD_close_9 (by decide) (fun z => absurd (nI_0) z) (fun _ => ?_)
  refine lv_aload_n hx hb d_MD_close_12 rfl (lv_at hl 0 rfl) ?_
  refine lv_iconst (v := 1) hx hb d_MD_close_13 (by decide) ?_
  refine sx_cV (As := [.int 1]) (rest := []) (wa := []) (wb := (wMg G md KR ++ wMr G md K KT)) (k0 := 0) C0 (c_MD_fail (fl := 0) (V := V) (F := F) (T := T) (rf := rf) (dp := 0)) q_MD_48 i_MD_fail ⟨Nat.le_of_ble_eq_true rfl, Nat.le_of_ble_eq_true rfl⟩ rfl rfl rfl hP hD hS hA hl.1 rfl (Nat.zero_le _) d_MD_close_14 ⟨Nat.le_of_ble_eq_true rfl, Nat.le_of_ble_eq_true rfl⟩ (fun r H locs hq hj hS => ?_)
  obtain ⟨rfl, hP1, hD1⟩ := hq
  obtain ⟨hP, hD⟩ := hj _ hP1 hD1
  have hP : va_P G.1 sx_cls ([(md 0, .inr (2, [.int 1, .ref (md 1), .ref (md 2), .ref (md 3), .ref (md 4), .ref (md 5), .ref (md 6), .int rf, .int (nI 0)])), (md 4, .inl (G.2 1, 256, .inr (.inl V))), (md 5, .inl (G.2 1, 256, .inr (.inl F))), (md 6, .inl (G.2 2, 256, .inl T)), (md 1, .inl (G.2 3, 31, .inr (.inr (.inr (.inr (fun i => some (md 1 + 1 + i))))))), (md 2, .inl (G.2 4, 31, .inr (.inr (.inr (.inr (fun i => some (md 2 + 1 + i))))))), (md 3, .inl (G.2 0, 31, .inl KR))] ++ wMr G md K KT) H := hP
  have hD : va_D A ([(md 0, .inr (2, [.int 1, .ref (md 1), .ref (md 2), .ref (md 3), .ref (md 4), .ref (md 5), .ref (md 6), .int rf, .int (nI 0)])), (md 4, .inl (G.2 1, 256, .inr (.inl V))), (md 5, .inl (G.2 1, 256, .inr (.inl F))), (md 6, .inl (G.2 2, 256, .inl T)), (md 1, .inl (G.2 3, 31, .inr (.inr (.inr (.inr (fun i => some (md 1 + 1 + i))))))), (md 2, .inl (G.2 4, 31, .inr (.inr (.inr (.inr (fun i => some (md 2 + 1 + i))))))), (md 3, .inl (G.2 0, 31, .inl KR))] ++ wMr G md K KT) := hD
  exact sx_iret C0 hr hlk hS ⟨rfl, hP, hD⟩ d_MD_close_17
theorem c_MD_close1 {g : Int32} (hd : dp < 30) (hg : ¬ g = 0) : sx_Ctr l y_MD_close w_MD_close (sx_rm 1 0 0 22) G [.ref (md 0), .int g] (wMF G md fl V F T rf (dp + 1) KR K KT) (sx_is G (some (.int (nI dp))) (wMF G md 0 V F T rf dp KR K KT)) := by
  refine sx_Ctr.of (by decide +kernel) (Nat.le_of_ble_eq_true rfl) ?_
  intro p e s m below meth c9 ls A C0 hr hlk hnm hl hP hD hA hS
  have C0 : sx_C p s m c9 b_MD_close 3 sx_MD G := C0
  have hx := C0.1
  have hb := C0.2.1
  have hl : lv_has ls 3 [(0, .ref (md 0)), (1, .int g)] := hl
  refine lv_aload_n hx hb d_MD_close_0 rfl (lv_at hl 0 rfl) ?_
  refine lv_iconst (v := 0) hx hb d_MD_close_1 (by decide) ?_
  refine sx_put (ty := .int) C0 hP hD hS 0 rfl rfl 0 (by decide) f_MD_34 rfl rfl (by decide +kernel) rfl rfl (Nat.le_of_ble_eq_true rfl) d_MD_close_2 (fun H locs hP hD hS => ?_)
  have hP : va_P G.1 sx_cls ([(md 0, .inr (2, [.int 0, .ref (md 1), .ref (md 2), .ref (md 3), .ref (md 4), .ref (md 5), .ref (md 6), .int rf, .int (nI (dp + 1))])), (md 4, .inl (G.2 1, 256, .inr (.inl V))), (md 5, .inl (G.2 1, 256, .inr (.inl F))), (md 6, .inl (G.2 2, 256, .inl T)), (md 1, .inl (G.2 3, 31, .inr (.inr (.inr (.inr (fun i => some (md 1 + 1 + i))))))), (md 2, .inl (G.2 4, 31, .inr (.inr (.inr (.inr (fun i => some (md 2 + 1 + i))))))), (md 3, .inl (G.2 0, 31, .inl KR))] ++ wMr G md K KT) H := hP
  have hD : va_D A ([(md 0, .inr (2, [.int 0, .ref (md 1), .ref (md 2), .ref (md 3), .ref (md 4), .ref (md 5), .ref (md 6), .int rf, .int (nI (dp + 1))])), (md 4, .inl (G.2 1, 256, .inr (.inl V))), (md 5, .inl (G.2 1, 256, .inr (.inl F))), (md 6, .inl (G.2 2, 256, .inl T)), (md 1, .inl (G.2 3, 31, .inr (.inr (.inr (.inr (fun i => some (md 1 + 1 + i))))))), (md 2, .inl (G.2 4, 31, .inr (.inr (.inr (.inr (fun i => some (md 2 + 1 + i))))))), (md 3, .inl (G.2 0, 31, .inl KR))] ++ wMr G md K KT) := hD
  refine lv_aload_n hx hb d_MD_close_5 rfl (lv_at hl 0 rfl) ?_
  refine sx_get C0 hP 0 rfl rfl 8 (by decide) f_MD_41 rfl rfl d_MD_close_6 ?_
  refine lv_if_ne (tgt := 18) hx hb d_MD_close_9 (by decide) (fun _ => ?_) (fun z => absurd z (nI_ne0 (by omega) (by omega)))
  refine lv_iload_n hx hb d_MD_close_18 rfl (lv_at hl 1 rfl) ?_
  refine lv_if_ne (tgt := 84) hx hb d_MD_close_19 (by decide) (fun _ => ?_) (fun z => absurd z (hg))
  refine lv_aload_n hx hb d_MD_close_84 rfl (lv_at hl 0 rfl) ?_
  refine lv_dup hx hb d_MD_close_85 rfl ?_
  refine sx_get C0 hP 0 rfl rfl 8 (by decide) f_MD_41 rfl rfl d_MD_close_86 ?_
  refine lv_iconst (v := 1) hx hb d_MD_close_89 (by decide) ?_
  refine lv_isub hx hb d_MD_close_90 ?_
  refine sx_topi (y := nI dp) (nI_pred dp) ?_
  refine sx_put (ty := .int) C0 hP hD hS 0 rfl rfl 8 (by decide) f_MD_41 rfl rfl (by decide +kernel) rfl rfl (Nat.le_of_ble_eq_true rfl) d_MD_close_91 (fun H locs hP hD hS => ?_)
  have hP : va_P G.1 sx_cls ([(md 0, .inr (2, [.int 0, .ref (md 1), .ref (md 2), .ref (md 3), .ref (md 4), .ref (md 5), .ref (md 6), .int rf, .int (nI dp)])), (md 4, .inl (G.2 1, 256, .inr (.inl V))), (md 5, .inl (G.2 1, 256, .inr (.inl F))), (md 6, .inl (G.2 2, 256, .inl T)), (md 1, .inl (G.2 3, 31, .inr (.inr (.inr (.inr (fun i => some (md 1 + 1 + i))))))), (md 2, .inl (G.2 4, 31, .inr (.inr (.inr (.inr (fun i => some (md 2 + 1 + i))))))), (md 3, .inl (G.2 0, 31, .inl KR))] ++ wMr G md K KT) H := hP
  have hD : va_D A ([(md 0, .inr (2, [.int 0, .ref (md 1), .ref (md 2), .ref (md 3), .ref (md 4), .ref (md 5), .ref (md 6), .int rf, .int (nI dp)])), (md 4, .inl (G.2 1, 256, .inr (.inl V))), (md 5, .inl (G.2 1, 256, .inr (.inl F))), (md 6, .inl (G.2 2, 256, .inl T)), (md 1, .inl (G.2 3, 31, .inr (.inr (.inr (.inr (fun i => some (md 1 + 1 + i))))))), (md 2, .inl (G.2 4, 31, .inr (.inr (.inr (.inr (fun i => some (md 2 + 1 + i))))))), (md 3, .inl (G.2 0, 31, .inl KR))] ++ wMr G md K KT) := hD
  refine lv_aload_n hx hb d_MD_close_94 rfl (lv_at hl 0 rfl) ?_
  refine sx_get C0 hP 0 rfl rfl 8 (by decide) f_MD_41 rfl rfl d_MD_close_95 ?_
  exact sx_iret C0 hr hlk hS ⟨rfl, hP, hD⟩ d_MD_close_98
theorem c_MD_close0 {g : Int32} (hd : dp < 30) (hg : g = 0) (hB : ∀ i, i < 256 → vp_nar .boolean (KT (dp + 1) i) = KT (dp + 1) i) : sx_Ctr l y_MD_close w_MD_close (sx_rm 1 0 0 22) G [.ref (md 0), .int g] (wMF G md fl V F T rf (dp + 1) KR K KT) (sx_is G (some (.int (nI dp))) (wMF G md 0 (K (dp + 1)) F (KT (dp + 1)) (KR (dp + 1)) dp KR K KT)) := by
  refine sx_Ctr.of (by decide +kernel) (Nat.le_of_ble_eq_true rfl) ?_
  intro p e s m below meth c9 ls A C0 hr hlk hnm hl hP hD hA hS
  have C0 : sx_C p s m c9 b_MD_close 3 sx_MD G := C0
  have hx := C0.1
  have hb := C0.2.1
  have hl : lv_has ls 3 [(0, .ref (md 0)), (1, .int g)] := hl
  have loop : ∀ (k i : Nat) (ls : Array Slot) (H : Heap) (locs : List Loc), i + k = 256 → lv_has ls 3 [(2, .int (nI i)), (0, .ref (md 0)), (1, .int g)] → va_P G.1 sx_cls (wMF G md 0 (p_mix (K (dp + 1)) V i) F (p_mix (KT (dp + 1)) T i) rf (dp + 1) KR K KT) H → va_D A (wMF G md 0 (p_mix (K (dp + 1)) V i) F (p_mix (KT (dp + 1)) T i) rf (dp + 1) KR K KT) → va_S A s.heap H locs → W p l e (sx_rm 1 0 0 22) s m ([.ref (md 0), .int g] : List Value).toArray below meth c9 H locs 0 0 (MQ below (sx_Q (sx_is G (some (.int (nI dp))) (wMF G md 0 (K (dp + 1)) F (KT (dp + 1)) (KR (dp + 1)) dp KR K KT)) A) ([.ref (md 0), .int g] : List Value).toArray s 0 0 A) (F0 m 24 ls []) := by
    intro k
    induction k with
    | zero =>
      intro i ls H locs hi hl hP hD hS
      have e1 : i = 256 := hi
      subst e1
      have hP : va_P G.1 sx_cls ([(md 0, .inr (2, [.int 0, .ref (md 1), .ref (md 2), .ref (md 3), .ref (md 4), .ref (md 5), .ref (md 6), .int rf, .int (nI (dp + 1))])), (md 4, .inl (G.2 1, 256, .inr (.inl (p_mix (K (dp + 1)) V 256)))), (md 5, .inl (G.2 1, 256, .inr (.inl F))), (md 6, .inl (G.2 2, 256, .inl (p_mix (KT (dp + 1)) T 256))), (md 1, .inl (G.2 3, 31, .inr (.inr (.inr (.inr (fun i => some (md 1 + 1 + i))))))), (md 2, .inl (G.2 4, 31, .inr (.inr (.inr (.inr (fun i => some (md 2 + 1 + i))))))), (md 3, .inl (G.2 0, 31, .inl KR))] ++ wMr G md K KT) H := hP
      have hD : va_D A ([(md 0, .inr (2, [.int 0, .ref (md 1), .ref (md 2), .ref (md 3), .ref (md 4), .ref (md 5), .ref (md 6), .int rf, .int (nI (dp + 1))])), (md 4, .inl (G.2 1, 256, .inr (.inl (p_mix (K (dp + 1)) V 256)))), (md 5, .inl (G.2 1, 256, .inr (.inl F))), (md 6, .inl (G.2 2, 256, .inl (p_mix (KT (dp + 1)) T 256))), (md 1, .inl (G.2 3, 31, .inr (.inr (.inr (.inr (fun i => some (md 1 + 1 + i))))))), (md 2, .inl (G.2 4, 31, .inr (.inr (.inr (.inr (fun i => some (md 2 + 1 + i))))))), (md 3, .inl (G.2 0, 31, .inl KR))] ++ wMr G md K KT) := hD
      refine lv_iload_n hx hb d_MD_close_24 rfl (lv_at hl 0 rfl) ?_
      refine lv_sipush (v := nI 256) hx hb d_MD_close_25 (by decide +kernel) ?_
      refine lv_icmp_ge (tgt := 71) hx hb d_MD_close_28 (by decide) (fun _ => ?_) (fun z => absurd (Int32.le_refl _) z)
      have hP := sx_extA (k := 1) (e1 := (G.2 1, 256, .inr (.inl (K (dp + 1))))) hP rfl (sx_cellL (fun j hj => p_mix_lt hj))
      have hD := va_D.set (p := 1) (e := .inl (G.2 1, 256, .inr (.inl (K (dp + 1))))) hD rfl
      have hP := sx_extA (k := 3) (e1 := (G.2 2, 256, .inl (KT (dp + 1)))) hP rfl (sx_cellI (fun j hj => p_mix_lt hj))
      have hD := va_D.set (p := 3) (e := .inl (G.2 2, 256, .inl (KT (dp + 1)))) hD rfl
      have hP : va_P G.1 sx_cls ([(md 0, .inr (2, [.int 0, .ref (md 1), .ref (md 2), .ref (md 3), .ref (md 4), .ref (md 5), .ref (md 6), .int rf, .int (nI (dp + 1))])), (md 4, .inl (G.2 1, 256, .inr (.inl (K (dp + 1))))), (md 5, .inl (G.2 1, 256, .inr (.inl F))), (md 6, .inl (G.2 2, 256, .inl (KT (dp + 1)))), (md 1, .inl (G.2 3, 31, .inr (.inr (.inr (.inr (fun i => some (md 1 + 1 + i))))))), (md 2, .inl (G.2 4, 31, .inr (.inr (.inr (.inr (fun i => some (md 2 + 1 + i))))))), (md 3, .inl (G.2 0, 31, .inl KR))] ++ wMr G md K KT) H := hP
      have hD : va_D A ([(md 0, .inr (2, [.int 0, .ref (md 1), .ref (md 2), .ref (md 3), .ref (md 4), .ref (md 5), .ref (md 6), .int rf, .int (nI (dp + 1))])), (md 4, .inl (G.2 1, 256, .inr (.inl (K (dp + 1))))), (md 5, .inl (G.2 1, 256, .inr (.inl F))), (md 6, .inl (G.2 2, 256, .inl (KT (dp + 1)))), (md 1, .inl (G.2 3, 31, .inr (.inr (.inr (.inr (fun i => some (md 1 + 1 + i))))))), (md 2, .inl (G.2 4, 31, .inr (.inr (.inr (.inr (fun i => some (md 2 + 1 + i))))))), (md 3, .inl (G.2 0, 31, .inl KR))] ++ wMr G md K KT) := hD
      refine lv_aload_n hx hb d_MD_close_71 rfl (lv_at hl 1 rfl) ?_
      refine lv_aload_n hx hb d_MD_close_72 rfl (lv_at hl 1 rfl) ?_
      refine sx_get C0 hP 0 rfl rfl 3 (by decide) f_MD_19 rfl rfl d_MD_close_73 ?_
      refine lv_aload_n hx hb d_MD_close_76 rfl (lv_at hl 1 rfl) ?_
      refine sx_get C0 hP 0 rfl rfl 8 (by decide) f_MD_41 rfl rfl d_MD_close_77 ?_
      refine sx_iald (i := dp + 1) (v := KR (dp + 1)) C0 hP 6 rfl rfl (by omega) (by decide) rfl d_MD_close_80 ?_
      refine sx_put (ty := .int) C0 hP hD hS 0 rfl rfl 7 (by decide) f_MD_38 rfl rfl (by decide +kernel) rfl rfl (Nat.le_of_ble_eq_true rfl) d_MD_close_81 (fun H locs hP hD hS => ?_)
      have hP : va_P G.1 sx_cls ([(md 0, .inr (2, [.int 0, .ref (md 1), .ref (md 2), .ref (md 3), .ref (md 4), .ref (md 5), .ref (md 6), .int (KR (dp + 1)), .int (nI (dp + 1))])), (md 4, .inl (G.2 1, 256, .inr (.inl (K (dp + 1))))), (md 5, .inl (G.2 1, 256, .inr (.inl F))), (md 6, .inl (G.2 2, 256, .inl (KT (dp + 1)))), (md 1, .inl (G.2 3, 31, .inr (.inr (.inr (.inr (fun i => some (md 1 + 1 + i))))))), (md 2, .inl (G.2 4, 31, .inr (.inr (.inr (.inr (fun i => some (md 2 + 1 + i))))))), (md 3, .inl (G.2 0, 31, .inl KR))] ++ wMr G md K KT) H := hP
      have hD : va_D A ([(md 0, .inr (2, [.int 0, .ref (md 1), .ref (md 2), .ref (md 3), .ref (md 4), .ref (md 5), .ref (md 6), .int (KR (dp + 1)), .int (nI (dp + 1))])), (md 4, .inl (G.2 1, 256, .inr (.inl (K (dp + 1))))), (md 5, .inl (G.2 1, 256, .inr (.inl F))), (md 6, .inl (G.2 2, 256, .inl (KT (dp + 1)))), (md 1, .inl (G.2 3, 31, .inr (.inr (.inr (.inr (fun i => some (md 1 + 1 + i))))))), (md 2, .inl (G.2 4, 31, .inr (.inr (.inr (.inr (fun i => some (md 2 + 1 + i))))))), (md 3, .inl (G.2 0, 31, .inl KR))] ++ wMr G md K KT) := hD
      refine lv_aload_n hx hb d_MD_close_84 rfl (lv_at hl 1 rfl) ?_
      refine lv_dup hx hb d_MD_close_85 rfl ?_
      refine sx_get C0 hP 0 rfl rfl 8 (by decide) f_MD_41 rfl rfl d_MD_close_86 ?_
      refine lv_iconst (v := 1) hx hb d_MD_close_89 (by decide) ?_
      refine lv_isub hx hb d_MD_close_90 ?_
      refine sx_topi (y := nI dp) (nI_pred dp) ?_
      refine sx_put (ty := .int) C0 hP hD hS 0 rfl rfl 8 (by decide) f_MD_41 rfl rfl (by decide +kernel) rfl rfl (Nat.le_of_ble_eq_true rfl) d_MD_close_91 (fun H locs hP hD hS => ?_)
      have hP : va_P G.1 sx_cls ([(md 0, .inr (2, [.int 0, .ref (md 1), .ref (md 2), .ref (md 3), .ref (md 4), .ref (md 5), .ref (md 6), .int (KR (dp + 1)), .int (nI dp)])), (md 4, .inl (G.2 1, 256, .inr (.inl (K (dp + 1))))), (md 5, .inl (G.2 1, 256, .inr (.inl F))), (md 6, .inl (G.2 2, 256, .inl (KT (dp + 1)))), (md 1, .inl (G.2 3, 31, .inr (.inr (.inr (.inr (fun i => some (md 1 + 1 + i))))))), (md 2, .inl (G.2 4, 31, .inr (.inr (.inr (.inr (fun i => some (md 2 + 1 + i))))))), (md 3, .inl (G.2 0, 31, .inl KR))] ++ wMr G md K KT) H := hP
      have hD : va_D A ([(md 0, .inr (2, [.int 0, .ref (md 1), .ref (md 2), .ref (md 3), .ref (md 4), .ref (md 5), .ref (md 6), .int (KR (dp + 1)), .int (nI dp)])), (md 4, .inl (G.2 1, 256, .inr (.inl (K (dp + 1))))), (md 5, .inl (G.2 1, 256, .inr (.inl F))), (md 6, .inl (G.2 2, 256, .inl (KT (dp + 1)))), (md 1, .inl (G.2 3, 31, .inr (.inr (.inr (.inr (fun i => some (md 1 + 1 + i))))))), (md 2, .inl (G.2 4, 31, .inr (.inr (.inr (.inr (fun i => some (md 2 + 1 + i))))))), (md 3, .inl (G.2 0, 31, .inl KR))] ++ wMr G md K KT) := hD
      refine lv_aload_n hx hb d_MD_close_94 rfl (lv_at hl 1 rfl) ?_
      refine sx_get C0 hP 0 rfl rfl 8 (by decide) f_MD_41 rfl rfl d_MD_close_95 ?_
      exact sx_iret C0 hr hlk hS ⟨rfl, hP, hD⟩ d_MD_close_98
    | succ k ih =>
      intro i ls H locs hi hl hP hD hS
      have hP : va_P G.1 sx_cls ([(md 0, .inr (2, [.int 0, .ref (md 1), .ref (md 2), .ref (md 3), .ref (md 4), .ref (md 5), .ref (md 6), .int rf, .int (nI (dp + 1))])), (md 4, .inl (G.2 1, 256, .inr (.inl (p_mix (K (dp + 1)) V i)))), (md 5, .inl (G.2 1, 256, .inr (.inl F))), (md 6, .inl (G.2 2, 256, .inl (p_mix (KT (dp + 1)) T i))), (md 1, .inl (G.2 3, 31, .inr (.inr (.inr (.inr (fun i => some (md 1 + 1 + i))))))), (md 2, .inl (G.2 4, 31, .inr (.inr (.inr (.inr (fun i => some (md 2 + 1 + i))))))), (md 3, .inl (G.2 0, 31, .inl KR))] ++ wMr G md K KT) H := hP
      have hD : va_D A ([(md 0, .inr (2, [.int 0, .ref (md 1), .ref (md 2), .ref (md 3), .ref (md 4), .ref (md 5), .ref (md 6), .int rf, .int (nI (dp + 1))])), (md 4, .inl (G.2 1, 256, .inr (.inl (p_mix (K (dp + 1)) V i)))), (md 5, .inl (G.2 1, 256, .inr (.inl F))), (md 6, .inl (G.2 2, 256, .inl (p_mix (KT (dp + 1)) T i))), (md 1, .inl (G.2 3, 31, .inr (.inr (.inr (.inr (fun i => some (md 1 + 1 + i))))))), (md 2, .inl (G.2 4, 31, .inr (.inr (.inr (.inr (fun i => some (md 2 + 1 + i))))))), (md 3, .inl (G.2 0, 31, .inl KR))] ++ wMr G md K KT) := hD
      refine lv_iload_n hx hb d_MD_close_24 rfl (lv_at hl 0 rfl) ?_
      refine lv_sipush (v := nI 256) hx hb d_MD_close_25 (by decide +kernel) ?_
      refine lv_icmp_ge (tgt := 71) hx hb d_MD_close_28 (by decide) (fun z => absurd z (nI_ge (show i < 256 by omega) (by decide))) (fun _ => ?_)
      refine lv_aload_n hx hb d_MD_close_31 rfl (lv_at hl 1 rfl) ?_
      refine sx_get C0 hP 0 rfl rfl 4 (by decide) f_MD_23 rfl rfl d_MD_close_32 ?_
      refine lv_iload_n hx hb d_MD_close_35 rfl (lv_at hl 0 rfl) ?_
      refine lv_aload_n hx hb d_MD_close_36 rfl (lv_at hl 1 rfl) ?_
      refine sx_get C0 hP 0 rfl rfl 1 (by decide) f_MD_9 rfl rfl d_MD_close_37 ?_
      refine lv_aload_n hx hb d_MD_close_40 rfl (lv_at hl 1 rfl) ?_
      refine sx_get C0 hP 0 rfl rfl 8 (by decide) f_MD_41 rfl rfl d_MD_close_41 ?_
      refine sx_aald (t0 := 3) (i := dp + 1) (v := md 1 + 1 + (dp + 1)) C0 hP 4 rfl rfl rfl (by omega) (by decide) rfl d_MD_close_44 ?_
      refine lv_iload_n hx hb d_MD_close_45 rfl (lv_at hl 0 rfl) ?_
      refine sx_lald (i := i) (v := K (dp + 1) i) C0 hP (7 + (dp + 1)) (sx_rowK (X := [(md 0, .inr (2, [.int 0, .ref (md 1), .ref (md 2), .ref (md 3), .ref (md 4), .ref (md 5), .ref (md 6), .int rf, .int (nI (dp + 1))])), (md 4, .inl (G.2 1, 256, .inr (.inl (p_mix (K (dp + 1)) V i)))), (md 5, .inl (G.2 1, 256, .inr (.inl F))), (md 6, .inl (G.2 2, 256, .inl (p_mix (KT (dp + 1)) T i))), (md 1, .inl (G.2 3, 31, .inr (.inr (.inr (.inr (fun i => some (md 1 + 1 + i))))))), (md 2, .inl (G.2 4, 31, .inr (.inr (.inr (.inr (fun i => some (md 2 + 1 + i))))))), (md 3, .inl (G.2 0, 31, .inl KR))]) rfl (by omega)) rfl (show i < 256 by omega) (by decide) rfl d_MD_close_46 ?_
      refine sx_last (i := i) C0 hP hD hS 1 rfl rfl (show i < 256 by omega) (by decide) d_MD_close_47 (fun H locs hP hD hS => ?_)
      rw [p_mixL] at hP hD
      have hP : va_P G.1 sx_cls ([(md 0, .inr (2, [.int 0, .ref (md 1), .ref (md 2), .ref (md 3), .ref (md 4), .ref (md 5), .ref (md 6), .int rf, .int (nI (dp + 1))])), (md 4, .inl (G.2 1, 256, .inr (.inl (p_mix (K (dp + 1)) V (i + 1))))), (md 5, .inl (G.2 1, 256, .inr (.inl F))), (md 6, .inl (G.2 2, 256, .inl (p_mix (KT (dp + 1)) T i))), (md 1, .inl (G.2 3, 31, .inr (.inr (.inr (.inr (fun i => some (md 1 + 1 + i))))))), (md 2, .inl (G.2 4, 31, .inr (.inr (.inr (.inr (fun i => some (md 2 + 1 + i))))))), (md 3, .inl (G.2 0, 31, .inl KR))] ++ wMr G md K KT) H := hP
      have hD : va_D A ([(md 0, .inr (2, [.int 0, .ref (md 1), .ref (md 2), .ref (md 3), .ref (md 4), .ref (md 5), .ref (md 6), .int rf, .int (nI (dp + 1))])), (md 4, .inl (G.2 1, 256, .inr (.inl (p_mix (K (dp + 1)) V (i + 1))))), (md 5, .inl (G.2 1, 256, .inr (.inl F))), (md 6, .inl (G.2 2, 256, .inl (p_mix (KT (dp + 1)) T i))), (md 1, .inl (G.2 3, 31, .inr (.inr (.inr (.inr (fun i => some (md 1 + 1 + i))))))), (md 2, .inl (G.2 4, 31, .inr (.inr (.inr (.inr (fun i => some (md 2 + 1 + i))))))), (md 3, .inl (G.2 0, 31, .inl KR))] ++ wMr G md K KT) := hD
      refine lv_aload_n hx hb d_MD_close_48 rfl (lv_at hl 1 rfl) ?_
      refine sx_get C0 hP 0 rfl rfl 6 (by decide) f_MD_30 rfl rfl d_MD_close_49 ?_
      refine lv_iload_n hx hb d_MD_close_52 rfl (lv_at hl 0 rfl) ?_
      refine lv_aload_n hx hb d_MD_close_53 rfl (lv_at hl 1 rfl) ?_
      refine sx_get C0 hP 0 rfl rfl 2 (by decide) f_MD_16 rfl rfl d_MD_close_54 ?_
      refine lv_aload_n hx hb d_MD_close_57 rfl (lv_at hl 1 rfl) ?_
      refine sx_get C0 hP 0 rfl rfl 8 (by decide) f_MD_41 rfl rfl d_MD_close_58 ?_
      refine sx_aald (t0 := 4) (i := dp + 1) (v := md 2 + 1 + (dp + 1)) C0 hP 5 rfl rfl rfl (by omega) (by decide) rfl d_MD_close_61 ?_
      refine lv_iload_n hx hb d_MD_close_62 rfl (lv_at hl 0 rfl) ?_
      refine sx_zald (i := i) (v := KT (dp + 1) i) C0 hP (38 + (dp + 1)) (sx_rowT (X := [(md 0, .inr (2, [.int 0, .ref (md 1), .ref (md 2), .ref (md 3), .ref (md 4), .ref (md 5), .ref (md 6), .int rf, .int (nI (dp + 1))])), (md 4, .inl (G.2 1, 256, .inr (.inl (p_mix (K (dp + 1)) V (i + 1))))), (md 5, .inl (G.2 1, 256, .inr (.inl F))), (md 6, .inl (G.2 2, 256, .inl (p_mix (KT (dp + 1)) T i))), (md 1, .inl (G.2 3, 31, .inr (.inr (.inr (.inr (fun i => some (md 1 + 1 + i))))))), (md 2, .inl (G.2 4, 31, .inr (.inr (.inr (.inr (fun i => some (md 2 + 1 + i))))))), (md 3, .inl (G.2 0, 31, .inl KR))]) rfl (by omega)) rfl (show i < 256 by omega) (by decide) rfl d_MD_close_63 ?_
      refine sx_zast (i := i) C0 (hB i (by omega)) hP hD hS 3 rfl rfl (show i < 256 by omega) (by decide) d_MD_close_64 (fun H locs hP hD hS => ?_)
      rw [p_mixI] at hP hD
      have hP : va_P G.1 sx_cls ([(md 0, .inr (2, [.int 0, .ref (md 1), .ref (md 2), .ref (md 3), .ref (md 4), .ref (md 5), .ref (md 6), .int rf, .int (nI (dp + 1))])), (md 4, .inl (G.2 1, 256, .inr (.inl (p_mix (K (dp + 1)) V (i + 1))))), (md 5, .inl (G.2 1, 256, .inr (.inl F))), (md 6, .inl (G.2 2, 256, .inl (p_mix (KT (dp + 1)) T (i + 1)))), (md 1, .inl (G.2 3, 31, .inr (.inr (.inr (.inr (fun i => some (md 1 + 1 + i))))))), (md 2, .inl (G.2 4, 31, .inr (.inr (.inr (.inr (fun i => some (md 2 + 1 + i))))))), (md 3, .inl (G.2 0, 31, .inl KR))] ++ wMr G md K KT) H := hP
      have hD : va_D A ([(md 0, .inr (2, [.int 0, .ref (md 1), .ref (md 2), .ref (md 3), .ref (md 4), .ref (md 5), .ref (md 6), .int rf, .int (nI (dp + 1))])), (md 4, .inl (G.2 1, 256, .inr (.inl (p_mix (K (dp + 1)) V (i + 1))))), (md 5, .inl (G.2 1, 256, .inr (.inl F))), (md 6, .inl (G.2 2, 256, .inl (p_mix (KT (dp + 1)) T (i + 1)))), (md 1, .inl (G.2 3, 31, .inr (.inr (.inr (.inr (fun i => some (md 1 + 1 + i))))))), (md 2, .inl (G.2 4, 31, .inr (.inr (.inr (.inr (fun i => some (md 2 + 1 + i))))))), (md 3, .inl (G.2 0, 31, .inl KR))] ++ wMr G md K KT) := hD
      refine lv_iinc (k := 0) (v := nI (i + 1)) hx hb d_MD_close_65 hl rfl (nI_1 i) (by decide) rfl (fun ls hl => ?_)
      have hl : lv_has ls 3 [(2, .int (nI (i + 1))), (0, .ref (md 0)), (1, .int g)] := hl
      refine lv_goto (tgt := 24) hx hb d_MD_close_68 (by decide) ?_
      exact ih (i + 1) ls H locs (by omega) hl hP hD hS
  refine lv_aload_n hx hb d_MD_close_0 rfl (lv_at hl 0 rfl) ?_
  refine lv_iconst (v := 0) hx hb d_MD_close_1 (by decide) ?_
  refine sx_put (ty := .int) C0 hP hD hS 0 rfl rfl 0 (by decide) f_MD_34 rfl rfl (by decide +kernel) rfl rfl (Nat.le_of_ble_eq_true rfl) d_MD_close_2 (fun H locs hP hD hS => ?_)
  have hP : va_P G.1 sx_cls ([(md 0, .inr (2, [.int 0, .ref (md 1), .ref (md 2), .ref (md 3), .ref (md 4), .ref (md 5), .ref (md 6), .int rf, .int (nI (dp + 1))])), (md 4, .inl (G.2 1, 256, .inr (.inl V))), (md 5, .inl (G.2 1, 256, .inr (.inl F))), (md 6, .inl (G.2 2, 256, .inl T)), (md 1, .inl (G.2 3, 31, .inr (.inr (.inr (.inr (fun i => some (md 1 + 1 + i))))))), (md 2, .inl (G.2 4, 31, .inr (.inr (.inr (.inr (fun i => some (md 2 + 1 + i))))))), (md 3, .inl (G.2 0, 31, .inl KR))] ++ wMr G md K KT) H := hP
  have hD : va_D A ([(md 0, .inr (2, [.int 0, .ref (md 1), .ref (md 2), .ref (md 3), .ref (md 4), .ref (md 5), .ref (md 6), .int rf, .int (nI (dp + 1))])), (md 4, .inl (G.2 1, 256, .inr (.inl V))), (md 5, .inl (G.2 1, 256, .inr (.inl F))), (md 6, .inl (G.2 2, 256, .inl T)), (md 1, .inl (G.2 3, 31, .inr (.inr (.inr (.inr (fun i => some (md 1 + 1 + i))))))), (md 2, .inl (G.2 4, 31, .inr (.inr (.inr (.inr (fun i => some (md 2 + 1 + i))))))), (md 3, .inl (G.2 0, 31, .inl KR))] ++ wMr G md K KT) := hD
  refine lv_aload_n hx hb d_MD_close_5 rfl (lv_at hl 0 rfl) ?_
  refine sx_get C0 hP 0 rfl rfl 8 (by decide) f_MD_41 rfl rfl d_MD_close_6 ?_
  refine lv_if_ne (tgt := 18) hx hb d_MD_close_9 (by decide) (fun _ => ?_) (fun z => absurd z (nI_ne0 (by omega) (by omega)))
  refine lv_iload_n hx hb d_MD_close_18 rfl (lv_at hl 1 rfl) ?_
  refine lv_if_ne (tgt := 84) hx hb d_MD_close_19 (by decide) (fun z => absurd (hg) z) (fun _ => ?_)
  refine lv_iconst (v := nI 0) hx hb d_MD_close_22 (by decide +kernel) ?_
  refine lv_istore_n hx hb d_MD_close_23 rfl hl (by decide) rfl (fun ls hl => ?_)
  have hl : lv_has ls 3 [(2, .int (nI 0)), (0, .ref (md 0)), (1, .int g)] := hl
  exact loop 256 0 ls H _ rfl hl (by rw [p_mix_0, p_mix_0]; exact hP) (by rw [p_mix_0, p_mix_0]; exact hD) hS
end SM3
end
section
/-! the Model's constructor -/
theorem sx_Dseq {A : Nat → Prop} {w : va_W} {b : Nat} (h : ∀ (k : Nat) (q : Nat × va_E), w[k]? = some q → q.1 = b + k) (hA : ∀ q, b ≤ q → A q) : va_D A w :=
  ⟨fun i j x y hi hj hxy => by have h1 := h i x hi; have h2 := h j y hj; omega, fun k q hk => hA _ (by rw [h k q hk]; exact Nat.le_add_right _ _)⟩
theorem sx_D_iff {A : Nat → Prop} {w : va_W} : va_D A w ↔ (w.map (·.1)).Nodup ∧ ∀ q ∈ w, A q.1 := by
  constructor
  · intro h
    refine ⟨?_, fun q hq => ?_⟩
    · rw [List.nodup_iff_pairwise_ne, List.pairwise_iff_getElem]
      intro i j hi hj hij he
      simp only [List.getElem_map] at he
      rw [List.length_map] at hi hj
      have := h.1 i j w[i] w[j] (List.getElem?_eq_getElem hi) (List.getElem?_eq_getElem hj) he
      omega
    · obtain ⟨k, hk⟩ := List.getElem?_of_mem hq
      exact h.2 k q hk
  · intro ⟨h1, h2⟩
    refine ⟨fun i j x y hi hj hxy => ?_, fun k q hk => h2 q (List.mem_of_getElem? hk)⟩
    obtain ⟨li, ei⟩ := List.getElem?_eq_some_iff.mp hi
    obtain ⟨lj, ej⟩ := List.getElem?_eq_some_iff.mp hj
    rcases Nat.lt_trichotomy i j with h | h | h
    · have := (List.pairwise_iff_getElem.mp (List.nodup_iff_pairwise_ne.mp h1)) i j (by rw [List.length_map]; exact li) (by rw [List.length_map]; exact lj) h
      simp only [List.getElem_map, ei, ej] at this
      exact absurd hxy this
    · exact h
    · have := (List.pairwise_iff_getElem.mp (List.nodup_iff_pairwise_ne.mp h1)) j i (by rw [List.length_map]; exact lj) (by rw [List.length_map]; exact li) h
      simp only [List.getElem_map, ei, ej] at this
      exact absurd hxy.symm this
theorem sx_perm {A : Nat → Prop} {D : va_G} {cl : List vw_C} {w1 w2 : va_W} {H : Heap} (hp : w1.Perm w2) (hP : va_P D cl w1 H) (hD : va_D A w1) : va_P D cl w2 H ∧ va_D A w2 := by
  rw [sx_P_mem] at hP ⊢
  rw [sx_D_iff] at hD ⊢
  exact ⟨fun q hq => hP q (hp.mem_iff.mpr hq), (hp.map _).nodup_iff.mp hD.1, fun q hq => hD.2 q (hp.mem_iff.mpr hq)⟩
theorem sx_pm {α : Type} (x0 k t x3 x4 x5 x6 : α) (R1 R2 : List α) : (((((([x0] ++ (k :: R1)) ++ (t :: R2)) ++ [x3]) ++ [x4]) ++ [x5]) ++ [x6]).Perm ([x0, x4, x5, x6] ++ ([k, t, x3] ++ (R1 ++ R2))) := by
  have e0 : (((((([x0] ++ (k :: R1)) ++ (t :: R2)) ++ [x3]) ++ [x4]) ++ [x5]) ++ [x6]) = [x0, k] ++ (R1 ++ ([t] ++ (R2 ++ [x3, x4, x5, x6]))) := by simp
  rw [e0]
  refine List.Perm.trans (List.Perm.append_left [x0, k] (List.Perm.append_left R1 (List.Perm.append_left [t] List.perm_append_comm))) ?_
  refine List.Perm.trans (List.Perm.append_left [x0, k] (List.perm_append_comm_assoc R1 [t, x3, x4, x5, x6] R2)) ?_
  exact List.Perm.append_left [x0] (List.perm_append_comm_assoc [k, t, x3] [x4, x5, x6] (R1 ++ R2))
section SXP
variable {p : Program} {l : Launch} {e : Env} {R : Room} {s : State} {m : MethodId} {args : Array Value} {below : List Frame} {meth : Method} {c : Code} {H : Heap} {locs : List Loc} {cells slots : Nat} {Q : State → Prop} {cc : ByteArray} {nL : Nat} {own : String} {G : sx_G} {pc : Nat} {ls : Array Slot} {rest : List Value} {A : Nat → Prop}
theorem sx_multi (C0 : sx_C p s m c cc nL own G) {ws : va_W} {cA cB c0 : ClassId} {ty : FieldType} {nm : String} {idx N M : Nat} {a1 : vp_A} (ha : vp_cell cB a1 = arrV cB M (fun _ => defaultValue ty)) (hkA : ∃ k : Class, s.vm.classes[cA]? = some k ∧ k.kind = .array cB (.array ty)) (hkB : ∃ k : Class, s.vm.classes[cB]? = some k ∧ k.kind = .array c0 ty) (hl : Jvm.Cond.classLink own idx nm ∈ lw_tbl) (hnm : s.vm.findClass nm = some cA) (hf : fits ty (defaultValue ty) = true)
    (hN : N * 4 ≤ 536870912) (hM : M * componentBytes ty ≤ 536870912) (hM1 : M ≤ 536870912) (hcells : cells + (1 + N) ≤ R.cells) (hslots : slots + (N + N * M) ≤ R.slots) (hP : va_P G.1 sx_cls ws H) (hD : va_D A ws) (hS : va_S A s.heap H locs) (hA : ∀ q, s.heap.size ≤ q → A q) (hdg : decode cc pc = .ok (.multianewarray idx 2, 4))
    (kk : ∀ (q : Nat) (H1 : Heap) (locs1 : List Loc), va_P G.1 sx_cls (ws ++ ((q, .inl (cA, N, .inr (.inr (.inr (.inr (fun i => some (q + 1 + i))))))) :: (List.range N).map (fun i => (q + 1 + i, .inl (cB, a1))))) H1 → va_D A (ws ++ ((q, .inl (cA, N, .inr (.inr (.inr (.inr (fun i => some (q + 1 + i))))))) :: (List.range N).map (fun i => (q + 1 + i, .inl (cB, a1))))) → va_S A s.heap H1 locs1 → W p l e R s m args below meth c H1 locs1 (cells + 1 + N) (slots + N + N * M) Q (F0 m (pc + 4) ls (.ref q :: rest))) : W p l e R s m args below meth c H locs cells slots Q (F0 m pc ls (.int (nI M) :: .int (nI N) :: rest)) := by
  refine sx_multi0 C0 hkA hkB hl hnm hf hN hM hM1 hcells hslots hdg (fun H1 locs1 h1 h2 h3 h4 h5 => ?_)
  have hAH : ∀ q, H.size ≤ q → A q := fun q h => hA q (Nat.le_trans hS.1 h)
  refine kk H.size H1 locs1 ?_ ?_ ⟨by have := hS.1; omega, fun q g1 g2 => by rw [h4 q (Nat.lt_of_lt_of_le g1 hS.1)]; exact hS.2.1 q g1 g2, fun x hx => by
    rcases h5 x hx with h | h
    · exact hS.2.2 x h
    · rw [h]; exact hAH _ (Nat.le_refl _)⟩
  · refine (hP.kept (fun k q hk => h4 q.1 (hP k q hk).lt)).app (sx_P_mem.mpr (fun q hq => ?_))
    rcases List.mem_cons.mp hq with rfl | hq
    · show H1[H.size]? = some (vp_cell cA _)
      rw [h2, vp_cell_q]
      congr 1
      exact sx_arrE (fun j hj => by rw [if_pos hj]; rfl)
    · obtain ⟨i, hi, rfl⟩ := List.mem_map.mp hq
      show H1[H.size + 1 + i]? = some (vp_cell cB a1)
      rw [h3 i (List.mem_range.mp hi), ha]
  · have hq : ∀ (k : Nat) (q : Nat × va_E), ((H.size, (.inl (cA, N, .inr (.inr (.inr (.inr (fun i => some (H.size + 1 + i)))))) : va_E)) :: (List.range N).map (fun i => (H.size + 1 + i, (.inl (cB, a1) : va_E))))[k]? = some q → q.1 = H.size + k := by
      intro k q hk
      cases k with
      | zero => cases hk; rfl
      | succ k =>
        rw [List.getElem?_cons_succ, List.getElem?_map] at hk
        cases hr : (List.range N)[k]? with
        | none => rw [hr] at hk; cases hk
        | some i =>
          rw [hr] at hk
          cases hk
          have : i = k := by
            have := (List.getElem?_eq_some_iff.mp hr).2
            rw [List.getElem_range] at this
            exact this.symm
          subst this
          show H.size + 1 + i = _
          omega
    refine hD.app (sx_Dseq hq hAH) (fun i j x y hi hj hxy => ?_)
    have := (hP i x hi).lt
    have := hq j y hj
    omega
end SXP
set_option maxRecDepth 20000 in
theorem c_MD_init {l : Launch} {G : sx_G} {a : Nat} : sx_Ctr l y_MD_init w_MD_init (sx_rm 1 68 16733 20) G [.ref a] [(a, .inr (2, [.int 0, .null, .null, .null, .null, .null, .null, .int 0, .int 0]))] (fun v A H => ∃ q1 q2 q3 q4 q5 q6 : Nat, v = none ∧ va_P G.1 sx_cls (wMF G (fun i => match i with | 0 => a | 1 => q1 | 2 => q2 | 3 => q3 | 4 => q4 | 5 => q5 | _ => q6) 0 (fun _ => 0) (fun _ => 0) (fun _ => 0) 0 0 (fun _ => 0) (fun _ _ => 0) (fun _ _ => 0)) H ∧ va_D A (wMF G (fun i => match i with | 0 => a | 1 => q1 | 2 => q2 | 3 => q3 | 4 => q4 | 5 => q5 | _ => q6) 0 (fun _ => 0) (fun _ => 0) (fun _ => 0) 0 0 (fun _ => 0) (fun _ _ => 0) (fun _ _ => 0))) := by
  refine sx_Ctr.of (by decide +kernel) (Nat.le_of_ble_eq_true rfl) ?_
  intro p e s m below meth c9 ls A C0 hr hlk hnm hl hP hD hA hS
  have C0 : sx_C p s m c9 b_MD_init 1 sx_MD G := C0
  have hx := C0.1
  have hb := C0.2.1
  have hl : lv_has ls 1 [(0, .ref a)] := hl
  obtain ⟨ar1, ar2, ⟨k3, c3, ar3, ar3x⟩, ⟨k4, c4, ar4, ar4x⟩⟩ := C0.2.2.2.2.2.2.1
  have eJ : "[" ++ (FieldType.array FieldType.long).toString = "[[J" := by decide +kernel
  have eZ : "[" ++ (FieldType.array FieldType.boolean).toString = "[[Z" := by decide +kernel
  have fJ : s.vm.findClass "[[J" = some (G.2 3) := by rw [← eJ]; exact (C0.2.2.2.2.2.1.2 3 _ rfl).2
  have fZ : s.vm.findClass "[[Z" = some (G.2 4) := by rw [← eZ]; exact (C0.2.2.2.2.2.1.2 4 _ rfl).2
  refine lv_aload_n hx hb d_MD_init_0 rfl (lv_at hl 0 rfl) ?_
  refine sx_objInit C0 sx_oi_MD hl.1 (Nat.zero_le _) ⟨Nat.le_of_ble_eq_true rfl, Nat.le_of_ble_eq_true rfl⟩ d_MD_init_1 ?_
  refine lv_aload_n hx hb d_MD_init_4 rfl (lv_at hl 0 rfl) ?_
  refine lv_bipush (v := nI 31) hx hb d_MD_init_5 (by decide +kernel) ?_
  refine lv_sipush (v := nI 256) hx hb d_MD_init_7 (by decide +kernel) ?_
  refine sx_multi (N := 31) (M := 256) (ty := .long) (a1 := (256, .inr (.inl (fun _ => 0)))) C0 rfl ar1 ⟨k3, ar3, ar3x⟩ (sx_tb (i := 291) rfl) fJ rfl (Nat.le_of_ble_eq_true rfl) (Nat.le_of_ble_eq_true rfl) (Nat.le_of_ble_eq_true rfl) (Nat.le_of_ble_eq_true rfl) (Nat.le_of_ble_eq_true rfl) hP hD hS hA d_MD_init_10 (fun q1 H locs hP hD hS => ?_)
  have hP : va_P G.1 sx_cls ([(a, .inr (2, [.int 0, .null, .null, .null, .null, .null, .null, .int 0, .int 0]))] ++ ((q1, .inl (G.2 3, 31, .inr (.inr (.inr (.inr (fun i => some (q1 + 1 + i))))))) :: (List.range 31).map (fun i => (q1 + 1 + i, .inl (G.2 1, 256, .inr (.inl (fun _ => 0))))))) H := hP
  have hD : va_D A ([(a, .inr (2, [.int 0, .null, .null, .null, .null, .null, .null, .int 0, .int 0]))] ++ ((q1, .inl (G.2 3, 31, .inr (.inr (.inr (.inr (fun i => some (q1 + 1 + i))))))) :: (List.range 31).map (fun i => (q1 + 1 + i, .inl (G.2 1, 256, .inr (.inl (fun _ => 0))))))) := hD
  refine sx_putF (ty := .array (.array .long)) C0 hnm hP hD hS 0 rfl rfl 1 (by decide) f_MD_9 rfl rfl (by decide +kernel) rfl rfl (Nat.le_of_ble_eq_true rfl) d_MD_init_14 (fun H locs hP hD hS => ?_)
  have hP : va_P G.1 sx_cls ([(a, .inr (2, [.int 0, .ref q1, .null, .null, .null, .null, .null, .int 0, .int 0]))] ++ ((q1, .inl (G.2 3, 31, .inr (.inr (.inr (.inr (fun i => some (q1 + 1 + i))))))) :: (List.range 31).map (fun i => (q1 + 1 + i, .inl (G.2 1, 256, .inr (.inl (fun _ => 0))))))) H := hP
  have hD : va_D A ([(a, .inr (2, [.int 0, .ref q1, .null, .null, .null, .null, .null, .int 0, .int 0]))] ++ ((q1, .inl (G.2 3, 31, .inr (.inr (.inr (.inr (fun i => some (q1 + 1 + i))))))) :: (List.range 31).map (fun i => (q1 + 1 + i, .inl (G.2 1, 256, .inr (.inl (fun _ => 0))))))) := hD
  refine lv_aload_n hx hb d_MD_init_17 rfl (lv_at hl 0 rfl) ?_
  refine lv_bipush (v := nI 31) hx hb d_MD_init_18 (by decide +kernel) ?_
  refine lv_sipush (v := nI 256) hx hb d_MD_init_20 (by decide +kernel) ?_
  refine sx_multi (N := 31) (M := 256) (ty := .boolean) (a1 := (256, .inl (fun _ => 0))) C0 rfl ar2 ⟨k4, ar4, ar4x⟩ (sx_tb (i := 293) rfl) fZ rfl (Nat.le_of_ble_eq_true rfl) (Nat.le_of_ble_eq_true rfl) (Nat.le_of_ble_eq_true rfl) (Nat.le_of_ble_eq_true rfl) (Nat.le_of_ble_eq_true rfl) hP hD hS hA d_MD_init_23 (fun q2 H locs hP hD hS => ?_)
  have hP : va_P G.1 sx_cls ([(a, .inr (2, [.int 0, .ref q1, .null, .null, .null, .null, .null, .int 0, .int 0]))] ++ ((q1, .inl (G.2 3, 31, .inr (.inr (.inr (.inr (fun i => some (q1 + 1 + i))))))) :: (List.range 31).map (fun i => (q1 + 1 + i, .inl (G.2 1, 256, .inr (.inl (fun _ => 0)))))) ++ ((q2, .inl (G.2 4, 31, .inr (.inr (.inr (.inr (fun i => some (q2 + 1 + i))))))) :: (List.range 31).map (fun i => (q2 + 1 + i, .inl (G.2 2, 256, .inl (fun _ => 0)))))) H := hP
  have hD : va_D A ([(a, .inr (2, [.int 0, .ref q1, .null, .null, .null, .null, .null, .int 0, .int 0]))] ++ ((q1, .inl (G.2 3, 31, .inr (.inr (.inr (.inr (fun i => some (q1 + 1 + i))))))) :: (List.range 31).map (fun i => (q1 + 1 + i, .inl (G.2 1, 256, .inr (.inl (fun _ => 0)))))) ++ ((q2, .inl (G.2 4, 31, .inr (.inr (.inr (.inr (fun i => some (q2 + 1 + i))))))) :: (List.range 31).map (fun i => (q2 + 1 + i, .inl (G.2 2, 256, .inl (fun _ => 0)))))) := hD
  refine sx_putF (ty := .array (.array .boolean)) C0 hnm hP hD hS 0 rfl rfl 2 (by decide) f_MD_16 rfl rfl (by decide +kernel) rfl rfl (Nat.le_of_ble_eq_true rfl) d_MD_init_27 (fun H locs hP hD hS => ?_)
  have hP : va_P G.1 sx_cls ([(a, .inr (2, [.int 0, .ref q1, .ref q2, .null, .null, .null, .null, .int 0, .int 0]))] ++ ((q1, .inl (G.2 3, 31, .inr (.inr (.inr (.inr (fun i => some (q1 + 1 + i))))))) :: (List.range 31).map (fun i => (q1 + 1 + i, .inl (G.2 1, 256, .inr (.inl (fun _ => 0)))))) ++ ((q2, .inl (G.2 4, 31, .inr (.inr (.inr (.inr (fun i => some (q2 + 1 + i))))))) :: (List.range 31).map (fun i => (q2 + 1 + i, .inl (G.2 2, 256, .inl (fun _ => 0)))))) H := hP
  have hD : va_D A ([(a, .inr (2, [.int 0, .ref q1, .ref q2, .null, .null, .null, .null, .int 0, .int 0]))] ++ ((q1, .inl (G.2 3, 31, .inr (.inr (.inr (.inr (fun i => some (q1 + 1 + i))))))) :: (List.range 31).map (fun i => (q1 + 1 + i, .inl (G.2 1, 256, .inr (.inl (fun _ => 0)))))) ++ ((q2, .inl (G.2 4, 31, .inr (.inr (.inr (.inr (fun i => some (q2 + 1 + i))))))) :: (List.range 31).map (fun i => (q2 + 1 + i, .inl (G.2 2, 256, .inl (fun _ => 0)))))) := hD
  refine lv_aload_n hx hb d_MD_init_30 rfl (lv_at hl 0 rfl) ?_
  refine lv_bipush (v := nI 31) hx hb d_MD_init_31 (by decide +kernel) ?_
  refine sx_newa (ty := .int) (N' := 31) (a0 := (31, .inl (fun _ => 0))) C0 rfl 0 rfl (fun cA => sx_ra_prim (Or.inl rfl) cA _) sx_ac_int hP hD hS hA (fun _ => rfl) rfl (by decide) (by decide) (Nat.le_of_ble_eq_true rfl) (Nat.le_of_ble_eq_true rfl) d_MD_init_33 (fun q3 H hP hD hS => ?_)
  have hP : va_P G.1 sx_cls ([(a, .inr (2, [.int 0, .ref q1, .ref q2, .null, .null, .null, .null, .int 0, .int 0]))] ++ ((q1, .inl (G.2 3, 31, .inr (.inr (.inr (.inr (fun i => some (q1 + 1 + i))))))) :: (List.range 31).map (fun i => (q1 + 1 + i, .inl (G.2 1, 256, .inr (.inl (fun _ => 0)))))) ++ ((q2, .inl (G.2 4, 31, .inr (.inr (.inr (.inr (fun i => some (q2 + 1 + i))))))) :: (List.range 31).map (fun i => (q2 + 1 + i, .inl (G.2 2, 256, .inl (fun _ => 0))))) ++ [(q3, .inl (G.2 0, 31, .inl (fun _ => 0)))]) H := hP
  have hD : va_D A ([(a, .inr (2, [.int 0, .ref q1, .ref q2, .null, .null, .null, .null, .int 0, .int 0]))] ++ ((q1, .inl (G.2 3, 31, .inr (.inr (.inr (.inr (fun i => some (q1 + 1 + i))))))) :: (List.range 31).map (fun i => (q1 + 1 + i, .inl (G.2 1, 256, .inr (.inl (fun _ => 0)))))) ++ ((q2, .inl (G.2 4, 31, .inr (.inr (.inr (.inr (fun i => some (q2 + 1 + i))))))) :: (List.range 31).map (fun i => (q2 + 1 + i, .inl (G.2 2, 256, .inl (fun _ => 0))))) ++ [(q3, .inl (G.2 0, 31, .inl (fun _ => 0)))]) := hD
  refine sx_putF (ty := .array .int) C0 hnm hP hD hS 0 rfl rfl 3 (by decide) f_MD_19 rfl rfl (by decide +kernel) rfl rfl (Nat.le_of_ble_eq_true rfl) d_MD_init_35 (fun H locs hP hD hS => ?_)
  have hP : va_P G.1 sx_cls ([(a, .inr (2, [.int 0, .ref q1, .ref q2, .ref q3, .null, .null, .null, .int 0, .int 0]))] ++ ((q1, .inl (G.2 3, 31, .inr (.inr (.inr (.inr (fun i => some (q1 + 1 + i))))))) :: (List.range 31).map (fun i => (q1 + 1 + i, .inl (G.2 1, 256, .inr (.inl (fun _ => 0)))))) ++ ((q2, .inl (G.2 4, 31, .inr (.inr (.inr (.inr (fun i => some (q2 + 1 + i))))))) :: (List.range 31).map (fun i => (q2 + 1 + i, .inl (G.2 2, 256, .inl (fun _ => 0))))) ++ [(q3, .inl (G.2 0, 31, .inl (fun _ => 0)))]) H := hP
  have hD : va_D A ([(a, .inr (2, [.int 0, .ref q1, .ref q2, .ref q3, .null, .null, .null, .int 0, .int 0]))] ++ ((q1, .inl (G.2 3, 31, .inr (.inr (.inr (.inr (fun i => some (q1 + 1 + i))))))) :: (List.range 31).map (fun i => (q1 + 1 + i, .inl (G.2 1, 256, .inr (.inl (fun _ => 0)))))) ++ ((q2, .inl (G.2 4, 31, .inr (.inr (.inr (.inr (fun i => some (q2 + 1 + i))))))) :: (List.range 31).map (fun i => (q2 + 1 + i, .inl (G.2 2, 256, .inl (fun _ => 0))))) ++ [(q3, .inl (G.2 0, 31, .inl (fun _ => 0)))]) := hD
  refine lv_aload_n hx hb d_MD_init_38 rfl (lv_at hl 0 rfl) ?_
  refine lv_sipush (v := nI 256) hx hb d_MD_init_39 (by decide +kernel) ?_
  refine sx_newa (ty := .long) (N' := 256) (a0 := (256, .inr (.inl (fun _ => 0)))) C0 rfl 1 rfl (fun cA => sx_ra_prim (Or.inr (Or.inl rfl)) cA _) sx_ac_long hP hD hS hA (fun _ => rfl) rfl (by decide) (by decide) (Nat.le_of_ble_eq_true rfl) (Nat.le_of_ble_eq_true rfl) d_MD_init_42 (fun q4 H hP hD hS => ?_)
  have hP : va_P G.1 sx_cls ([(a, .inr (2, [.int 0, .ref q1, .ref q2, .ref q3, .null, .null, .null, .int 0, .int 0]))] ++ ((q1, .inl (G.2 3, 31, .inr (.inr (.inr (.inr (fun i => some (q1 + 1 + i))))))) :: (List.range 31).map (fun i => (q1 + 1 + i, .inl (G.2 1, 256, .inr (.inl (fun _ => 0)))))) ++ ((q2, .inl (G.2 4, 31, .inr (.inr (.inr (.inr (fun i => some (q2 + 1 + i))))))) :: (List.range 31).map (fun i => (q2 + 1 + i, .inl (G.2 2, 256, .inl (fun _ => 0))))) ++ [(q3, .inl (G.2 0, 31, .inl (fun _ => 0)))] ++ [(q4, .inl (G.2 1, 256, .inr (.inl (fun _ => 0))))]) H := hP
  have hD : va_D A ([(a, .inr (2, [.int 0, .ref q1, .ref q2, .ref q3, .null, .null, .null, .int 0, .int 0]))] ++ ((q1, .inl (G.2 3, 31, .inr (.inr (.inr (.inr (fun i => some (q1 + 1 + i))))))) :: (List.range 31).map (fun i => (q1 + 1 + i, .inl (G.2 1, 256, .inr (.inl (fun _ => 0)))))) ++ ((q2, .inl (G.2 4, 31, .inr (.inr (.inr (.inr (fun i => some (q2 + 1 + i))))))) :: (List.range 31).map (fun i => (q2 + 1 + i, .inl (G.2 2, 256, .inl (fun _ => 0))))) ++ [(q3, .inl (G.2 0, 31, .inl (fun _ => 0)))] ++ [(q4, .inl (G.2 1, 256, .inr (.inl (fun _ => 0))))]) := hD
  refine sx_putF (ty := .array .long) C0 hnm hP hD hS 0 rfl rfl 4 (by decide) f_MD_23 rfl rfl (by decide +kernel) rfl rfl (Nat.le_of_ble_eq_true rfl) d_MD_init_44 (fun H locs hP hD hS => ?_)
  have hP : va_P G.1 sx_cls ([(a, .inr (2, [.int 0, .ref q1, .ref q2, .ref q3, .ref q4, .null, .null, .int 0, .int 0]))] ++ ((q1, .inl (G.2 3, 31, .inr (.inr (.inr (.inr (fun i => some (q1 + 1 + i))))))) :: (List.range 31).map (fun i => (q1 + 1 + i, .inl (G.2 1, 256, .inr (.inl (fun _ => 0)))))) ++ ((q2, .inl (G.2 4, 31, .inr (.inr (.inr (.inr (fun i => some (q2 + 1 + i))))))) :: (List.range 31).map (fun i => (q2 + 1 + i, .inl (G.2 2, 256, .inl (fun _ => 0))))) ++ [(q3, .inl (G.2 0, 31, .inl (fun _ => 0)))] ++ [(q4, .inl (G.2 1, 256, .inr (.inl (fun _ => 0))))]) H := hP
  have hD : va_D A ([(a, .inr (2, [.int 0, .ref q1, .ref q2, .ref q3, .ref q4, .null, .null, .int 0, .int 0]))] ++ ((q1, .inl (G.2 3, 31, .inr (.inr (.inr (.inr (fun i => some (q1 + 1 + i))))))) :: (List.range 31).map (fun i => (q1 + 1 + i, .inl (G.2 1, 256, .inr (.inl (fun _ => 0)))))) ++ ((q2, .inl (G.2 4, 31, .inr (.inr (.inr (.inr (fun i => some (q2 + 1 + i))))))) :: (List.range 31).map (fun i => (q2 + 1 + i, .inl (G.2 2, 256, .inl (fun _ => 0))))) ++ [(q3, .inl (G.2 0, 31, .inl (fun _ => 0)))] ++ [(q4, .inl (G.2 1, 256, .inr (.inl (fun _ => 0))))]) := hD
  refine lv_aload_n hx hb d_MD_init_47 rfl (lv_at hl 0 rfl) ?_
  refine lv_sipush (v := nI 256) hx hb d_MD_init_48 (by decide +kernel) ?_
  refine sx_newa (ty := .long) (N' := 256) (a0 := (256, .inr (.inl (fun _ => 0)))) C0 rfl 1 rfl (fun cA => sx_ra_prim (Or.inr (Or.inl rfl)) cA _) sx_ac_long hP hD hS hA (fun _ => rfl) rfl (by decide) (by decide) (Nat.le_of_ble_eq_true rfl) (Nat.le_of_ble_eq_true rfl) d_MD_init_51 (fun q5 H hP hD hS => ?_)
  have hP : va_P G.1 sx_cls ([(a, .inr (2, [.int 0, .ref q1, .ref q2, .ref q3, .ref q4, .null, .null, .int 0, .int 0]))] ++ ((q1, .inl (G.2 3, 31, .inr (.inr (.inr (.inr (fun i => some (q1 + 1 + i))))))) :: (List.range 31).map (fun i => (q1 + 1 + i, .inl (G.2 1, 256, .inr (.inl (fun _ => 0)))))) ++ ((q2, .inl (G.2 4, 31, .inr (.inr (.inr (.inr (fun i => some (q2 + 1 + i))))))) :: (List.range 31).map (fun i => (q2 + 1 + i, .inl (G.2 2, 256, .inl (fun _ => 0))))) ++ [(q3, .inl (G.2 0, 31, .inl (fun _ => 0)))] ++ [(q4, .inl (G.2 1, 256, .inr (.inl (fun _ => 0))))] ++ [(q5, .inl (G.2 1, 256, .inr (.inl (fun _ => 0))))]) H := hP
  have hD : va_D A ([(a, .inr (2, [.int 0, .ref q1, .ref q2, .ref q3, .ref q4, .null, .null, .int 0, .int 0]))] ++ ((q1, .inl (G.2 3, 31, .inr (.inr (.inr (.inr (fun i => some (q1 + 1 + i))))))) :: (List.range 31).map (fun i => (q1 + 1 + i, .inl (G.2 1, 256, .inr (.inl (fun _ => 0)))))) ++ ((q2, .inl (G.2 4, 31, .inr (.inr (.inr (.inr (fun i => some (q2 + 1 + i))))))) :: (List.range 31).map (fun i => (q2 + 1 + i, .inl (G.2 2, 256, .inl (fun _ => 0))))) ++ [(q3, .inl (G.2 0, 31, .inl (fun _ => 0)))] ++ [(q4, .inl (G.2 1, 256, .inr (.inl (fun _ => 0))))] ++ [(q5, .inl (G.2 1, 256, .inr (.inl (fun _ => 0))))]) := hD
  refine sx_putF (ty := .array .long) C0 hnm hP hD hS 0 rfl rfl 5 (by decide) f_MD_27 rfl rfl (by decide +kernel) rfl rfl (Nat.le_of_ble_eq_true rfl) d_MD_init_53 (fun H locs hP hD hS => ?_)
  have hP : va_P G.1 sx_cls ([(a, .inr (2, [.int 0, .ref q1, .ref q2, .ref q3, .ref q4, .ref q5, .null, .int 0, .int 0]))] ++ ((q1, .inl (G.2 3, 31, .inr (.inr (.inr (.inr (fun i => some (q1 + 1 + i))))))) :: (List.range 31).map (fun i => (q1 + 1 + i, .inl (G.2 1, 256, .inr (.inl (fun _ => 0)))))) ++ ((q2, .inl (G.2 4, 31, .inr (.inr (.inr (.inr (fun i => some (q2 + 1 + i))))))) :: (List.range 31).map (fun i => (q2 + 1 + i, .inl (G.2 2, 256, .inl (fun _ => 0))))) ++ [(q3, .inl (G.2 0, 31, .inl (fun _ => 0)))] ++ [(q4, .inl (G.2 1, 256, .inr (.inl (fun _ => 0))))] ++ [(q5, .inl (G.2 1, 256, .inr (.inl (fun _ => 0))))]) H := hP
  have hD : va_D A ([(a, .inr (2, [.int 0, .ref q1, .ref q2, .ref q3, .ref q4, .ref q5, .null, .int 0, .int 0]))] ++ ((q1, .inl (G.2 3, 31, .inr (.inr (.inr (.inr (fun i => some (q1 + 1 + i))))))) :: (List.range 31).map (fun i => (q1 + 1 + i, .inl (G.2 1, 256, .inr (.inl (fun _ => 0)))))) ++ ((q2, .inl (G.2 4, 31, .inr (.inr (.inr (.inr (fun i => some (q2 + 1 + i))))))) :: (List.range 31).map (fun i => (q2 + 1 + i, .inl (G.2 2, 256, .inl (fun _ => 0))))) ++ [(q3, .inl (G.2 0, 31, .inl (fun _ => 0)))] ++ [(q4, .inl (G.2 1, 256, .inr (.inl (fun _ => 0))))] ++ [(q5, .inl (G.2 1, 256, .inr (.inl (fun _ => 0))))]) := hD
  refine lv_aload_n hx hb d_MD_init_56 rfl (lv_at hl 0 rfl) ?_
  refine lv_sipush (v := nI 256) hx hb d_MD_init_57 (by decide +kernel) ?_
  refine sx_newa (ty := .boolean) (N' := 256) (a0 := (256, .inl (fun _ => 0))) C0 rfl 2 rfl (fun cA => sx_ra_prim (Or.inr (Or.inr rfl)) cA _) sx_ac_boolean hP hD hS hA (fun _ => rfl) rfl (by decide) (by decide) (Nat.le_of_ble_eq_true rfl) (Nat.le_of_ble_eq_true rfl) d_MD_init_60 (fun q6 H hP hD hS => ?_)
  have hP : va_P G.1 sx_cls ([(a, .inr (2, [.int 0, .ref q1, .ref q2, .ref q3, .ref q4, .ref q5, .null, .int 0, .int 0]))] ++ ((q1, .inl (G.2 3, 31, .inr (.inr (.inr (.inr (fun i => some (q1 + 1 + i))))))) :: (List.range 31).map (fun i => (q1 + 1 + i, .inl (G.2 1, 256, .inr (.inl (fun _ => 0)))))) ++ ((q2, .inl (G.2 4, 31, .inr (.inr (.inr (.inr (fun i => some (q2 + 1 + i))))))) :: (List.range 31).map (fun i => (q2 + 1 + i, .inl (G.2 2, 256, .inl (fun _ => 0))))) ++ [(q3, .inl (G.2 0, 31, .inl (fun _ => 0)))] ++ [(q4, .inl (G.2 1, 256, .inr (.inl (fun _ => 0))))] ++ [(q5, .inl (G.2 1, 256, .inr (.inl (fun _ => 0))))] ++ [(q6, .inl (G.2 2, 256, .inl (fun _ => 0)))]) H := hP
  have hD : va_D A ([(a, .inr (2, [.int 0, .ref q1, .ref q2, .ref q3, .ref q4, .ref q5, .null, .int 0, .int 0]))] ++ ((q1, .inl (G.2 3, 31, .inr (.inr (.inr (.inr (fun i => some (q1 + 1 + i))))))) :: (List.range 31).map (fun i => (q1 + 1 + i, .inl (G.2 1, 256, .inr (.inl (fun _ => 0)))))) ++ ((q2, .inl (G.2 4, 31, .inr (.inr (.inr (.inr (fun i => some (q2 + 1 + i))))))) :: (List.range 31).map (fun i => (q2 + 1 + i, .inl (G.2 2, 256, .inl (fun _ => 0))))) ++ [(q3, .inl (G.2 0, 31, .inl (fun _ => 0)))] ++ [(q4, .inl (G.2 1, 256, .inr (.inl (fun _ => 0))))] ++ [(q5, .inl (G.2 1, 256, .inr (.inl (fun _ => 0))))] ++ [(q6, .inl (G.2 2, 256, .inl (fun _ => 0)))]) := hD
  refine sx_putF (ty := .array .boolean) C0 hnm hP hD hS 0 rfl rfl 6 (by decide) f_MD_30 rfl rfl (by decide +kernel) rfl rfl (Nat.le_of_ble_eq_true rfl) d_MD_init_62 (fun H locs hP hD hS => ?_)
  have hP : va_P G.1 sx_cls ([(a, .inr (2, [.int 0, .ref q1, .ref q2, .ref q3, .ref q4, .ref q5, .ref q6, .int 0, .int 0]))] ++ ((q1, .inl (G.2 3, 31, .inr (.inr (.inr (.inr (fun i => some (q1 + 1 + i))))))) :: (List.range 31).map (fun i => (q1 + 1 + i, .inl (G.2 1, 256, .inr (.inl (fun _ => 0)))))) ++ ((q2, .inl (G.2 4, 31, .inr (.inr (.inr (.inr (fun i => some (q2 + 1 + i))))))) :: (List.range 31).map (fun i => (q2 + 1 + i, .inl (G.2 2, 256, .inl (fun _ => 0))))) ++ [(q3, .inl (G.2 0, 31, .inl (fun _ => 0)))] ++ [(q4, .inl (G.2 1, 256, .inr (.inl (fun _ => 0))))] ++ [(q5, .inl (G.2 1, 256, .inr (.inl (fun _ => 0))))] ++ [(q6, .inl (G.2 2, 256, .inl (fun _ => 0)))]) H := hP
  have hD : va_D A ([(a, .inr (2, [.int 0, .ref q1, .ref q2, .ref q3, .ref q4, .ref q5, .ref q6, .int 0, .int 0]))] ++ ((q1, .inl (G.2 3, 31, .inr (.inr (.inr (.inr (fun i => some (q1 + 1 + i))))))) :: (List.range 31).map (fun i => (q1 + 1 + i, .inl (G.2 1, 256, .inr (.inl (fun _ => 0)))))) ++ ((q2, .inl (G.2 4, 31, .inr (.inr (.inr (.inr (fun i => some (q2 + 1 + i))))))) :: (List.range 31).map (fun i => (q2 + 1 + i, .inl (G.2 2, 256, .inl (fun _ => 0))))) ++ [(q3, .inl (G.2 0, 31, .inl (fun _ => 0)))] ++ [(q4, .inl (G.2 1, 256, .inr (.inl (fun _ => 0))))] ++ [(q5, .inl (G.2 1, 256, .inr (.inl (fun _ => 0))))] ++ [(q6, .inl (G.2 2, 256, .inl (fun _ => 0)))]) := hD
  obtain ⟨hP9, hD9⟩ := sx_perm (sx_pm _ _ _ _ _ _ _ _ _) hP hD
  have hP9 : va_P G.1 sx_cls (wMF G (fun i => match i with | 0 => a | 1 => q1 | 2 => q2 | 3 => q3 | 4 => q4 | 5 => q5 | _ => q6) 0 (fun _ => 0) (fun _ => 0) (fun _ => 0) 0 0 (fun _ => 0) (fun _ _ => 0) (fun _ _ => 0)) H := hP9
  have hD9 : va_D A (wMF G (fun i => match i with | 0 => a | 1 => q1 | 2 => q2 | 3 => q3 | 4 => q4 | 5 => q5 | _ => q6) 0 (fun _ => 0) (fun _ => 0) (fun _ => 0) 0 0 (fun _ => 0) (fun _ _ => 0) (fun _ _ => 0)) := hD9
  exact sx_vret C0 hr hlk hS ⟨q1, q2, q3, q4, q5, q6, rfl, hP9, hD9⟩ d_MD_init_65
end
section
/-! the law's helpers -/
def sx_CtrW (l : Launch) (y : MethodName) (w : Jvm.Cond) (rm : Room) (G : sx_G) (as : List Value) (ws : va_W) (B : State → Prop) (Post : Option Value → (Nat → Prop) → Heap → Prop) : Prop :=
  ∀ sz : Nat, Met l y [w] rm (va_Pc as (fun U => sx_pre G ws sz U ∧ B U)) (sx_Q Post (va_A ws sz)) rm.cells rm.slots (va_A ws sz)
theorem sx_growP {D : va_G} {cl : List vw_C} {ws : va_W} {H H1 : Heap} (hP : va_P D cl ws H) (h : ∀ q, q < H.size → H1[q]? = H[q]?) : va_P D cl ws H1 := hP.kept (fun k q hk => h q.1 (hP k q hk).lt)
theorem sx_growS {A : Nat → Prop} {H0 H H1 : Heap} {locs : List Loc} (hS : va_S A H0 H locs) (h5 : H.size ≤ H1.size) (h : ∀ q, q < H.size → H1[q]? = H[q]?) : va_S A H0 H1 locs := ⟨Nat.le_trans hS.1 h5, fun q g1 g2 => by rw [h q (Nat.lt_of_lt_of_le g1 hS.1)]; exact hS.2.1 q g1 g2, hS.2.2⟩
section SL1
variable {l : Launch} {G : sx_G} {ad : Nat → Nat} {qc qb : Nat} {V F : Nat → Int64} {T L : Nat → Int32} {tc n : Nat} {CH : Nat → Int32} {BE : Nat → Int64} {cd : Nat} {rf : Int32} {C1 C2 C3 : Nat → Int32} {dp : Nat}
variable {oo : Nat} {f : Nat → Int64}
theorem c_LW_open (hd : dp < 30) : sx_CtrW l y_LW_open w_LW_open (sx_rm 3 0 0 80) G [.ref (ad 0), .ref oo] ((wSC G ad qc qb V F T L tc n CH BE cd rf C1 C2 C3 dp) ++ wO G oo f) (fun _ => True) (sx_is G (some (.int 0)) ((wSC G ad qc qb V F T L tc n CH BE cd rf (upd C1 dp (nI cd)) (upd C2 dp (nI tc)) (upd C3 dp rf) (dp + 1)) ++ wO G oo (fun _ => (nI (dp + 1)).toInt64))) := by
  refine sx_Ctr.ofT (by decide +kernel) (Nat.le_of_ble_eq_true rfl) ?_
  intro p e s m below meth c9 ls A C0 ht hr hlk hl hP hD hA hS hB
  have C0 : sx_C p s m c9 b_LW_open 3 sx_LW G := C0
  have hx := C0.1
  have hb := C0.2.1
  have hl : lv_has ls 3 [(0, .ref (ad 0)), (1, .ref oo)] := hl
  refine lv_aload_n hx hb d_LW_open_0 rfl (lv_at hl 1 rfl) ?_
  refine lv_iconst (v := 0) hx hb d_LW_open_1 (by decide) ?_
  refine lv_aload_n hx hb d_LW_open_2 rfl (lv_at hl 0 rfl) ?_
  refine sx_cV (As := []) (rest := [.int 0, .ref oo]) (wa := []) (wb := wO G oo f) (k0 := 0) C0 (c_SC_open hd) q_LW_7 i_SC_open ⟨Nat.le_of_ble_eq_true rfl, Nat.le_of_ble_eq_true rfl⟩ rfl rfl rfl hP hD hS hA hl.1 rfl (Nat.le_of_ble_eq_true rfl) d_LW_open_3 ⟨Nat.le_of_ble_eq_true rfl, Nat.le_of_ble_eq_true rfl⟩ (fun r H locs hq hj hS => ?_)
  obtain ⟨rfl, hP1, hD1⟩ := hq
  obtain ⟨hP, hD⟩ := hj _ hP1 hD1
  have hP : va_P G.1 sx_cls ([(ad 0, .inr (0, [.ref (ad 1), .ref (ad 2), .ref (ad 3), .ref (ad 4), .int (nI (dp + 1))])), (ad 2, .inl (G.2 0, 30, .inl (upd C1 dp (nI cd)))), (ad 3, .inl (G.2 0, 30, .inl (upd C2 dp (nI tc)))), (ad 4, .inl (G.2 0, 30, .inl (upd C3 dp rf))), (ad 1, .inr (1, [.ref (ad 5), .ref (ad 6), .ref (ad 7), .ref (ad 8), .int (nI tc), .ref qc, .ref qb, .int (nI cd), .int rf])), (ad 5, .inl (G.2 1, 256, .inr (.inl V))), (ad 6, .inl (G.2 1, 256, .inr (.inl F))), (ad 7, .inl (G.2 2, 256, .inl T)), (ad 8, .inl (G.2 0, 256, .inl L)), (qc, .inl (G.2 0, n, .inl CH)), (qb, .inl (G.2 1, n, .inr (.inl BE))), (oo, .inl (G.2 1, 1, .inr (.inl f)))]) H := hP
  have hD : va_D A ([(ad 0, .inr (0, [.ref (ad 1), .ref (ad 2), .ref (ad 3), .ref (ad 4), .int (nI (dp + 1))])), (ad 2, .inl (G.2 0, 30, .inl (upd C1 dp (nI cd)))), (ad 3, .inl (G.2 0, 30, .inl (upd C2 dp (nI tc)))), (ad 4, .inl (G.2 0, 30, .inl (upd C3 dp rf))), (ad 1, .inr (1, [.ref (ad 5), .ref (ad 6), .ref (ad 7), .ref (ad 8), .int (nI tc), .ref qc, .ref qb, .int (nI cd), .int rf])), (ad 5, .inl (G.2 1, 256, .inr (.inl V))), (ad 6, .inl (G.2 1, 256, .inr (.inl F))), (ad 7, .inl (G.2 2, 256, .inl T)), (ad 8, .inl (G.2 0, 256, .inl L)), (qc, .inl (G.2 0, n, .inl CH)), (qb, .inl (G.2 1, n, .inr (.inl BE))), (oo, .inl (G.2 1, 1, .inr (.inl f)))]) := hD
  refine lv_i2l (v := (nI (dp + 1)).toInt64) hx hb d_LW_open_6 rfl ?_
  refine sx_last (i := 0) C0 hP hD hS 11 rfl rfl (by decide) (by decide) d_LW_open_7 (fun H locs hP hD hS => ?_)
  have hP : va_P G.1 sx_cls ([(ad 0, .inr (0, [.ref (ad 1), .ref (ad 2), .ref (ad 3), .ref (ad 4), .int (nI (dp + 1))])), (ad 2, .inl (G.2 0, 30, .inl (upd C1 dp (nI cd)))), (ad 3, .inl (G.2 0, 30, .inl (upd C2 dp (nI tc)))), (ad 4, .inl (G.2 0, 30, .inl (upd C3 dp rf))), (ad 1, .inr (1, [.ref (ad 5), .ref (ad 6), .ref (ad 7), .ref (ad 8), .int (nI tc), .ref qc, .ref qb, .int (nI cd), .int rf])), (ad 5, .inl (G.2 1, 256, .inr (.inl V))), (ad 6, .inl (G.2 1, 256, .inr (.inl F))), (ad 7, .inl (G.2 2, 256, .inl T)), (ad 8, .inl (G.2 0, 256, .inl L)), (qc, .inl (G.2 0, n, .inl CH)), (qb, .inl (G.2 1, n, .inr (.inl BE))), (oo, .inl (G.2 1, 1, .inr (.inl (vp_updL f 0 ((nI (dp + 1)).toInt64)))))]) H := hP
  have hD : va_D A ([(ad 0, .inr (0, [.ref (ad 1), .ref (ad 2), .ref (ad 3), .ref (ad 4), .int (nI (dp + 1))])), (ad 2, .inl (G.2 0, 30, .inl (upd C1 dp (nI cd)))), (ad 3, .inl (G.2 0, 30, .inl (upd C2 dp (nI tc)))), (ad 4, .inl (G.2 0, 30, .inl (upd C3 dp rf))), (ad 1, .inr (1, [.ref (ad 5), .ref (ad 6), .ref (ad 7), .ref (ad 8), .int (nI tc), .ref qc, .ref qb, .int (nI cd), .int rf])), (ad 5, .inl (G.2 1, 256, .inr (.inl V))), (ad 6, .inl (G.2 1, 256, .inr (.inl F))), (ad 7, .inl (G.2 2, 256, .inl T)), (ad 8, .inl (G.2 0, 256, .inl L)), (qc, .inl (G.2 0, n, .inl CH)), (qb, .inl (G.2 1, n, .inr (.inl BE))), (oo, .inl (G.2 1, 1, .inr (.inl (vp_updL f 0 ((nI (dp + 1)).toInt64)))))]) := hD
  have hP := sx_extA (k := 11) (e1 := (G.2 1, 1, .inr (.inl (fun _ => (nI (dp + 1)).toInt64)))) hP rfl (sx_cellL (fun j hj => by rw [show j = 0 by omega]; exact pk_uLs))
  have hD := va_D.set (p := 11) (e := .inl (G.2 1, 1, .inr (.inl (fun _ => (nI (dp + 1)).toInt64)))) hD rfl
  have hP : va_P G.1 sx_cls ([(ad 0, .inr (0, [.ref (ad 1), .ref (ad 2), .ref (ad 3), .ref (ad 4), .int (nI (dp + 1))])), (ad 2, .inl (G.2 0, 30, .inl (upd C1 dp (nI cd)))), (ad 3, .inl (G.2 0, 30, .inl (upd C2 dp (nI tc)))), (ad 4, .inl (G.2 0, 30, .inl (upd C3 dp rf))), (ad 1, .inr (1, [.ref (ad 5), .ref (ad 6), .ref (ad 7), .ref (ad 8), .int (nI tc), .ref qc, .ref qb, .int (nI cd), .int rf])), (ad 5, .inl (G.2 1, 256, .inr (.inl V))), (ad 6, .inl (G.2 1, 256, .inr (.inl F))), (ad 7, .inl (G.2 2, 256, .inl T)), (ad 8, .inl (G.2 0, 256, .inl L)), (qc, .inl (G.2 0, n, .inl CH)), (qb, .inl (G.2 1, n, .inr (.inl BE))), (oo, .inl (G.2 1, 1, .inr (.inl (fun _ => (nI (dp + 1)).toInt64))))]) H := hP
  have hD : va_D A ([(ad 0, .inr (0, [.ref (ad 1), .ref (ad 2), .ref (ad 3), .ref (ad 4), .int (nI (dp + 1))])), (ad 2, .inl (G.2 0, 30, .inl (upd C1 dp (nI cd)))), (ad 3, .inl (G.2 0, 30, .inl (upd C2 dp (nI tc)))), (ad 4, .inl (G.2 0, 30, .inl (upd C3 dp rf))), (ad 1, .inr (1, [.ref (ad 5), .ref (ad 6), .ref (ad 7), .ref (ad 8), .int (nI tc), .ref qc, .ref qb, .int (nI cd), .int rf])), (ad 5, .inl (G.2 1, 256, .inr (.inl V))), (ad 6, .inl (G.2 1, 256, .inr (.inl F))), (ad 7, .inl (G.2 2, 256, .inl T)), (ad 8, .inl (G.2 0, 256, .inl L)), (qc, .inl (G.2 0, n, .inl CH)), (qb, .inl (G.2 1, n, .inr (.inl BE))), (oo, .inl (G.2 1, 1, .inr (.inl (fun _ => (nI (dp + 1)).toInt64))))]) := hD
  refine lv_goto (tgt := 14) hx hb d_LW_open_8 (by decide) ?_
  refine lv_iconst (v := 0) hx hb d_LW_open_14 (by decide) ?_
  exact sx_iret C0 hr hlk hS ⟨rfl, hP, hD⟩ d_LW_open_15
theorem x_LW_open (hfl : l.flags = flags0) (hd : dp = 30) : sx_CtrW l y_LW_open w_LW_open (sx_rm 8 1 6 140) G [.ref (ad 0), .ref oo] ((wSC G ad qc qb V F T L tc n CH BE cd rf C1 C2 C3 dp) ++ wO G oo f) sx_TS (sx_is G (some (.int 1)) ((wSC G ad qc qb V F T L tc n CH BE cd rf C1 C2 C3 dp) ++ wO G oo f)) := by
  refine sx_Ctr.ofT (by decide +kernel) (Nat.le_of_ble_eq_true rfl) ?_
  intro p e s m below meth c9 ls A C0 ht hr hlk hl hP hD hA hS hB
  have C0 : sx_C p s m c9 b_LW_open 3 sx_LW G := C0
  have hx := C0.1
  have hb := C0.2.1
  have hl : lv_has ls 3 [(0, .ref (ad 0)), (1, .ref oo)] := hl
  refine lv_aload_n hx hb d_LW_open_0 rfl (lv_at hl 1 rfl) ?_
  refine lv_iconst (v := 0) hx hb d_LW_open_1 (by decide) ?_
  refine lv_aload_n hx hb d_LW_open_2 rfl (lv_at hl 0 rfl) ?_
  refine sx_cVX (As := []) (rest := [.int 0, .ref oo]) (wc := (wSC G ad qc qb V F T L tc n CH BE cd rf C1 C2 C3 dp)) (k0 := 0) C0 hB ⟨Nat.le_refl _, fun _ _ => rfl⟩ (x_SC_open hfl hd) q_LW_7 i_SC_open ⟨Nat.le_of_ble_eq_true rfl, Nat.le_of_ble_eq_true rfl⟩ rfl rfl rfl (sx_mid (wa := []) (wc := (wSC G ad qc qb V F T L tc n CH BE cd rf C1 C2 C3 dp)) (wb := wO G oo f) hP) hl.1 rfl (Nat.le_of_ble_eq_true rfl) d_LW_open_3 ⟨Nat.le_of_ble_eq_true rfl, Nat.le_of_ble_eq_true rfl⟩ (fun x ce H1 h1 h2 h3 h4 h5 h6 => ?_)
  refine sx_TW.caught C0 ht ⟨by decide, by decide⟩ (by decide) sx_clL_IOE sx_cast_IOE h2 h3 h4 ?_
  have hP := sx_growP hP h6
  have hS := sx_growS hS h5 h6
  refine lv_astore_n hx hb d_LW_open_11 rfl hl (by decide) rfl (fun ls hl => ?_)
  have hl : lv_has ls 3 [(2, .ref x), (0, .ref (ad 0)), (1, .ref oo)] := hl
  refine lv_iconst (v := 1) hx hb d_LW_open_12 (by decide) ?_
  exact sx_iret C0 hr hlk hS ⟨rfl, hP, hD⟩ d_LW_open_13
theorem c_LW_close1 {g : Int32} (hd : dp < 30) (hg : ¬ g = 0) : sx_CtrW l y_LW_close w_LW_close (sx_rm 3 0 0 80) G [.ref (ad 0), .int g, .ref oo] ((wSC G ad qc qb V F T L tc n CH BE cd rf C1 C2 C3 (dp + 1)) ++ wO G oo f) (fun _ => True) (sx_is G (some (.int 0)) ((wSC G ad qc qb V F T L tc n CH BE cd rf C1 C2 C3 dp) ++ wO G oo (fun _ => (nI dp).toInt64))) := by
  refine sx_Ctr.ofT (by decide +kernel) (Nat.le_of_ble_eq_true rfl) ?_
  intro p e s m below meth c9 ls A C0 ht hr hlk hl hP hD hA hS hB
  have C0 : sx_C p s m c9 b_LW_close 4 sx_LW G := C0
  have hx := C0.1
  have hb := C0.2.1
  have hl : lv_has ls 4 [(0, .ref (ad 0)), (1, .int g), (2, .ref oo)] := hl
  refine lv_aload_n hx hb d_LW_close_0 rfl (lv_at hl 2 rfl) ?_
  refine lv_iconst (v := 0) hx hb d_LW_close_1 (by decide) ?_
  refine lv_aload_n hx hb d_LW_close_2 rfl (lv_at hl 0 rfl) ?_
  refine lv_iload_n hx hb d_LW_close_3 rfl (lv_at hl 1 rfl) ?_
  refine sx_cV (As := [.int g]) (rest := [.int 0, .ref oo]) (wa := []) (wb := wO G oo f) (k0 := 0) C0 (c_SC_close1 hd hg) q_LW_15 i_SC_close ⟨Nat.le_of_ble_eq_true rfl, Nat.le_of_ble_eq_true rfl⟩ rfl rfl rfl hP hD hS hA hl.1 rfl (Nat.le_of_ble_eq_true rfl) d_LW_close_4 ⟨Nat.le_of_ble_eq_true rfl, Nat.le_of_ble_eq_true rfl⟩ (fun r H locs hq hj hS => ?_)
  obtain ⟨rfl, hP1, hD1⟩ := hq
  obtain ⟨hP, hD⟩ := hj _ hP1 hD1
  have hP : va_P G.1 sx_cls ([(ad 0, .inr (0, [.ref (ad 1), .ref (ad 2), .ref (ad 3), .ref (ad 4), .int (nI dp)])), (ad 2, .inl (G.2 0, 30, .inl C1)), (ad 3, .inl (G.2 0, 30, .inl C2)), (ad 4, .inl (G.2 0, 30, .inl C3)), (ad 1, .inr (1, [.ref (ad 5), .ref (ad 6), .ref (ad 7), .ref (ad 8), .int (nI tc), .ref qc, .ref qb, .int (nI cd), .int rf])), (ad 5, .inl (G.2 1, 256, .inr (.inl V))), (ad 6, .inl (G.2 1, 256, .inr (.inl F))), (ad 7, .inl (G.2 2, 256, .inl T)), (ad 8, .inl (G.2 0, 256, .inl L)), (qc, .inl (G.2 0, n, .inl CH)), (qb, .inl (G.2 1, n, .inr (.inl BE))), (oo, .inl (G.2 1, 1, .inr (.inl f)))]) H := hP
  have hD : va_D A ([(ad 0, .inr (0, [.ref (ad 1), .ref (ad 2), .ref (ad 3), .ref (ad 4), .int (nI dp)])), (ad 2, .inl (G.2 0, 30, .inl C1)), (ad 3, .inl (G.2 0, 30, .inl C2)), (ad 4, .inl (G.2 0, 30, .inl C3)), (ad 1, .inr (1, [.ref (ad 5), .ref (ad 6), .ref (ad 7), .ref (ad 8), .int (nI tc), .ref qc, .ref qb, .int (nI cd), .int rf])), (ad 5, .inl (G.2 1, 256, .inr (.inl V))), (ad 6, .inl (G.2 1, 256, .inr (.inl F))), (ad 7, .inl (G.2 2, 256, .inl T)), (ad 8, .inl (G.2 0, 256, .inl L)), (qc, .inl (G.2 0, n, .inl CH)), (qb, .inl (G.2 1, n, .inr (.inl BE))), (oo, .inl (G.2 1, 1, .inr (.inl f)))]) := hD
  refine lv_i2l (v := (nI dp).toInt64) hx hb d_LW_close_7 rfl ?_
  refine sx_last (i := 0) C0 hP hD hS 11 rfl rfl (by decide) (by decide) d_LW_close_8 (fun H locs hP hD hS => ?_)
  have hP : va_P G.1 sx_cls ([(ad 0, .inr (0, [.ref (ad 1), .ref (ad 2), .ref (ad 3), .ref (ad 4), .int (nI dp)])), (ad 2, .inl (G.2 0, 30, .inl C1)), (ad 3, .inl (G.2 0, 30, .inl C2)), (ad 4, .inl (G.2 0, 30, .inl C3)), (ad 1, .inr (1, [.ref (ad 5), .ref (ad 6), .ref (ad 7), .ref (ad 8), .int (nI tc), .ref qc, .ref qb, .int (nI cd), .int rf])), (ad 5, .inl (G.2 1, 256, .inr (.inl V))), (ad 6, .inl (G.2 1, 256, .inr (.inl F))), (ad 7, .inl (G.2 2, 256, .inl T)), (ad 8, .inl (G.2 0, 256, .inl L)), (qc, .inl (G.2 0, n, .inl CH)), (qb, .inl (G.2 1, n, .inr (.inl BE))), (oo, .inl (G.2 1, 1, .inr (.inl (vp_updL f 0 ((nI dp).toInt64)))))]) H := hP
  have hD : va_D A ([(ad 0, .inr (0, [.ref (ad 1), .ref (ad 2), .ref (ad 3), .ref (ad 4), .int (nI dp)])), (ad 2, .inl (G.2 0, 30, .inl C1)), (ad 3, .inl (G.2 0, 30, .inl C2)), (ad 4, .inl (G.2 0, 30, .inl C3)), (ad 1, .inr (1, [.ref (ad 5), .ref (ad 6), .ref (ad 7), .ref (ad 8), .int (nI tc), .ref qc, .ref qb, .int (nI cd), .int rf])), (ad 5, .inl (G.2 1, 256, .inr (.inl V))), (ad 6, .inl (G.2 1, 256, .inr (.inl F))), (ad 7, .inl (G.2 2, 256, .inl T)), (ad 8, .inl (G.2 0, 256, .inl L)), (qc, .inl (G.2 0, n, .inl CH)), (qb, .inl (G.2 1, n, .inr (.inl BE))), (oo, .inl (G.2 1, 1, .inr (.inl (vp_updL f 0 ((nI dp).toInt64)))))]) := hD
  have hP := sx_extA (k := 11) (e1 := (G.2 1, 1, .inr (.inl (fun _ => (nI dp).toInt64)))) hP rfl (sx_cellL (fun j hj => by rw [show j = 0 by omega]; exact pk_uLs))
  have hD := va_D.set (p := 11) (e := .inl (G.2 1, 1, .inr (.inl (fun _ => (nI dp).toInt64)))) hD rfl
  have hP : va_P G.1 sx_cls ([(ad 0, .inr (0, [.ref (ad 1), .ref (ad 2), .ref (ad 3), .ref (ad 4), .int (nI dp)])), (ad 2, .inl (G.2 0, 30, .inl C1)), (ad 3, .inl (G.2 0, 30, .inl C2)), (ad 4, .inl (G.2 0, 30, .inl C3)), (ad 1, .inr (1, [.ref (ad 5), .ref (ad 6), .ref (ad 7), .ref (ad 8), .int (nI tc), .ref qc, .ref qb, .int (nI cd), .int rf])), (ad 5, .inl (G.2 1, 256, .inr (.inl V))), (ad 6, .inl (G.2 1, 256, .inr (.inl F))), (ad 7, .inl (G.2 2, 256, .inl T)), (ad 8, .inl (G.2 0, 256, .inl L)), (qc, .inl (G.2 0, n, .inl CH)), (qb, .inl (G.2 1, n, .inr (.inl BE))), (oo, .inl (G.2 1, 1, .inr (.inl (fun _ => (nI dp).toInt64))))]) H := hP
  have hD : va_D A ([(ad 0, .inr (0, [.ref (ad 1), .ref (ad 2), .ref (ad 3), .ref (ad 4), .int (nI dp)])), (ad 2, .inl (G.2 0, 30, .inl C1)), (ad 3, .inl (G.2 0, 30, .inl C2)), (ad 4, .inl (G.2 0, 30, .inl C3)), (ad 1, .inr (1, [.ref (ad 5), .ref (ad 6), .ref (ad 7), .ref (ad 8), .int (nI tc), .ref qc, .ref qb, .int (nI cd), .int rf])), (ad 5, .inl (G.2 1, 256, .inr (.inl V))), (ad 6, .inl (G.2 1, 256, .inr (.inl F))), (ad 7, .inl (G.2 2, 256, .inl T)), (ad 8, .inl (G.2 0, 256, .inl L)), (qc, .inl (G.2 0, n, .inl CH)), (qb, .inl (G.2 1, n, .inr (.inl BE))), (oo, .inl (G.2 1, 1, .inr (.inl (fun _ => (nI dp).toInt64))))]) := hD
  refine lv_goto (tgt := 15) hx hb d_LW_close_9 (by decide) ?_
  refine lv_iconst (v := 0) hx hb d_LW_close_15 (by decide) ?_
  exact sx_iret C0 hr hlk hS ⟨rfl, hP, hD⟩ d_LW_close_16
theorem c_LW_close0 {g : Int32} {c0 t0 : Nat} (hd : dp < 30) (hg : g = 0) (h1 : C1 dp = nI c0) (h2 : C2 dp = nI t0) (hc : c0 ≤ cd) (ht0 : t0 ≤ tc) (hcn : cd ≤ n) (hn : n < 2 ^ 31) (htc : tc ≤ 256) (hCH : p_ix CH cd) (hL : p_ix L tc) : sx_CtrW l y_LW_close w_LW_close (sx_rm 3 0 0 80) G [.ref (ad 0), .int g, .ref oo] ((wSC G ad qc qb V F T L tc n CH BE cd rf C1 C2 C3 (dp + 1)) ++ wO G oo f) (fun _ => True) (sx_is G (some (.int 0)) ((wSC G ad qc qb (p_und CH BE c0 cd V) F (p_unt L t0 tc T) L t0 n CH BE c0 (C3 dp) C1 C2 C3 dp) ++ wO G oo (fun _ => (nI dp).toInt64))) := by
  refine sx_Ctr.ofT (by decide +kernel) (Nat.le_of_ble_eq_true rfl) ?_
  intro p e s m below meth c9 ls A C0 ht hr hlk hl hP hD hA hS hB
  have C0 : sx_C p s m c9 b_LW_close 4 sx_LW G := C0
  have hx := C0.1
  have hb := C0.2.1
  have hl : lv_has ls 4 [(0, .ref (ad 0)), (1, .int g), (2, .ref oo)] := hl
  refine lv_aload_n hx hb d_LW_close_0 rfl (lv_at hl 2 rfl) ?_
  refine lv_iconst (v := 0) hx hb d_LW_close_1 (by decide) ?_
  refine lv_aload_n hx hb d_LW_close_2 rfl (lv_at hl 0 rfl) ?_
  refine lv_iload_n hx hb d_LW_close_3 rfl (lv_at hl 1 rfl) ?_
  refine sx_cV (As := [.int g]) (rest := [.int 0, .ref oo]) (wa := []) (wb := wO G oo f) (k0 := 0) C0 (c_SC_close0 hd hg h1 h2 hc ht0 hcn hn htc hCH hL) q_LW_15 i_SC_close ⟨Nat.le_of_ble_eq_true rfl, Nat.le_of_ble_eq_true rfl⟩ rfl rfl rfl hP hD hS hA hl.1 rfl (Nat.le_of_ble_eq_true rfl) d_LW_close_4 ⟨Nat.le_of_ble_eq_true rfl, Nat.le_of_ble_eq_true rfl⟩ (fun r H locs hq hj hS => ?_)
  obtain ⟨rfl, hP1, hD1⟩ := hq
  obtain ⟨hP, hD⟩ := hj _ hP1 hD1
  have hP : va_P G.1 sx_cls ([(ad 0, .inr (0, [.ref (ad 1), .ref (ad 2), .ref (ad 3), .ref (ad 4), .int (nI dp)])), (ad 2, .inl (G.2 0, 30, .inl C1)), (ad 3, .inl (G.2 0, 30, .inl C2)), (ad 4, .inl (G.2 0, 30, .inl C3)), (ad 1, .inr (1, [.ref (ad 5), .ref (ad 6), .ref (ad 7), .ref (ad 8), .int (nI t0), .ref qc, .ref qb, .int (nI c0), .int (C3 dp)])), (ad 5, .inl (G.2 1, 256, .inr (.inl (p_und CH BE c0 cd V)))), (ad 6, .inl (G.2 1, 256, .inr (.inl F))), (ad 7, .inl (G.2 2, 256, .inl (p_unt L t0 tc T))), (ad 8, .inl (G.2 0, 256, .inl L)), (qc, .inl (G.2 0, n, .inl CH)), (qb, .inl (G.2 1, n, .inr (.inl BE))), (oo, .inl (G.2 1, 1, .inr (.inl f)))]) H := hP
  have hD : va_D A ([(ad 0, .inr (0, [.ref (ad 1), .ref (ad 2), .ref (ad 3), .ref (ad 4), .int (nI dp)])), (ad 2, .inl (G.2 0, 30, .inl C1)), (ad 3, .inl (G.2 0, 30, .inl C2)), (ad 4, .inl (G.2 0, 30, .inl C3)), (ad 1, .inr (1, [.ref (ad 5), .ref (ad 6), .ref (ad 7), .ref (ad 8), .int (nI t0), .ref qc, .ref qb, .int (nI c0), .int (C3 dp)])), (ad 5, .inl (G.2 1, 256, .inr (.inl (p_und CH BE c0 cd V)))), (ad 6, .inl (G.2 1, 256, .inr (.inl F))), (ad 7, .inl (G.2 2, 256, .inl (p_unt L t0 tc T))), (ad 8, .inl (G.2 0, 256, .inl L)), (qc, .inl (G.2 0, n, .inl CH)), (qb, .inl (G.2 1, n, .inr (.inl BE))), (oo, .inl (G.2 1, 1, .inr (.inl f)))]) := hD
  refine lv_i2l (v := (nI dp).toInt64) hx hb d_LW_close_7 rfl ?_
  refine sx_last (i := 0) C0 hP hD hS 11 rfl rfl (by decide) (by decide) d_LW_close_8 (fun H locs hP hD hS => ?_)
  have hP : va_P G.1 sx_cls ([(ad 0, .inr (0, [.ref (ad 1), .ref (ad 2), .ref (ad 3), .ref (ad 4), .int (nI dp)])), (ad 2, .inl (G.2 0, 30, .inl C1)), (ad 3, .inl (G.2 0, 30, .inl C2)), (ad 4, .inl (G.2 0, 30, .inl C3)), (ad 1, .inr (1, [.ref (ad 5), .ref (ad 6), .ref (ad 7), .ref (ad 8), .int (nI t0), .ref qc, .ref qb, .int (nI c0), .int (C3 dp)])), (ad 5, .inl (G.2 1, 256, .inr (.inl (p_und CH BE c0 cd V)))), (ad 6, .inl (G.2 1, 256, .inr (.inl F))), (ad 7, .inl (G.2 2, 256, .inl (p_unt L t0 tc T))), (ad 8, .inl (G.2 0, 256, .inl L)), (qc, .inl (G.2 0, n, .inl CH)), (qb, .inl (G.2 1, n, .inr (.inl BE))), (oo, .inl (G.2 1, 1, .inr (.inl (vp_updL f 0 ((nI dp).toInt64)))))]) H := hP
  have hD : va_D A ([(ad 0, .inr (0, [.ref (ad 1), .ref (ad 2), .ref (ad 3), .ref (ad 4), .int (nI dp)])), (ad 2, .inl (G.2 0, 30, .inl C1)), (ad 3, .inl (G.2 0, 30, .inl C2)), (ad 4, .inl (G.2 0, 30, .inl C3)), (ad 1, .inr (1, [.ref (ad 5), .ref (ad 6), .ref (ad 7), .ref (ad 8), .int (nI t0), .ref qc, .ref qb, .int (nI c0), .int (C3 dp)])), (ad 5, .inl (G.2 1, 256, .inr (.inl (p_und CH BE c0 cd V)))), (ad 6, .inl (G.2 1, 256, .inr (.inl F))), (ad 7, .inl (G.2 2, 256, .inl (p_unt L t0 tc T))), (ad 8, .inl (G.2 0, 256, .inl L)), (qc, .inl (G.2 0, n, .inl CH)), (qb, .inl (G.2 1, n, .inr (.inl BE))), (oo, .inl (G.2 1, 1, .inr (.inl (vp_updL f 0 ((nI dp).toInt64)))))]) := hD
  have hP := sx_extA (k := 11) (e1 := (G.2 1, 1, .inr (.inl (fun _ => (nI dp).toInt64)))) hP rfl (sx_cellL (fun j hj => by rw [show j = 0 by omega]; exact pk_uLs))
  have hD := va_D.set (p := 11) (e := .inl (G.2 1, 1, .inr (.inl (fun _ => (nI dp).toInt64)))) hD rfl
  have hP : va_P G.1 sx_cls ([(ad 0, .inr (0, [.ref (ad 1), .ref (ad 2), .ref (ad 3), .ref (ad 4), .int (nI dp)])), (ad 2, .inl (G.2 0, 30, .inl C1)), (ad 3, .inl (G.2 0, 30, .inl C2)), (ad 4, .inl (G.2 0, 30, .inl C3)), (ad 1, .inr (1, [.ref (ad 5), .ref (ad 6), .ref (ad 7), .ref (ad 8), .int (nI t0), .ref qc, .ref qb, .int (nI c0), .int (C3 dp)])), (ad 5, .inl (G.2 1, 256, .inr (.inl (p_und CH BE c0 cd V)))), (ad 6, .inl (G.2 1, 256, .inr (.inl F))), (ad 7, .inl (G.2 2, 256, .inl (p_unt L t0 tc T))), (ad 8, .inl (G.2 0, 256, .inl L)), (qc, .inl (G.2 0, n, .inl CH)), (qb, .inl (G.2 1, n, .inr (.inl BE))), (oo, .inl (G.2 1, 1, .inr (.inl (fun _ => (nI dp).toInt64))))]) H := hP
  have hD : va_D A ([(ad 0, .inr (0, [.ref (ad 1), .ref (ad 2), .ref (ad 3), .ref (ad 4), .int (nI dp)])), (ad 2, .inl (G.2 0, 30, .inl C1)), (ad 3, .inl (G.2 0, 30, .inl C2)), (ad 4, .inl (G.2 0, 30, .inl C3)), (ad 1, .inr (1, [.ref (ad 5), .ref (ad 6), .ref (ad 7), .ref (ad 8), .int (nI t0), .ref qc, .ref qb, .int (nI c0), .int (C3 dp)])), (ad 5, .inl (G.2 1, 256, .inr (.inl (p_und CH BE c0 cd V)))), (ad 6, .inl (G.2 1, 256, .inr (.inl F))), (ad 7, .inl (G.2 2, 256, .inl (p_unt L t0 tc T))), (ad 8, .inl (G.2 0, 256, .inl L)), (qc, .inl (G.2 0, n, .inl CH)), (qb, .inl (G.2 1, n, .inr (.inl BE))), (oo, .inl (G.2 1, 1, .inr (.inl (fun _ => (nI dp).toInt64))))]) := hD
  refine lv_goto (tgt := 15) hx hb d_LW_close_9 (by decide) ?_
  refine lv_iconst (v := 0) hx hb d_LW_close_15 (by decide) ?_
  exact sx_iret C0 hr hlk hS ⟨rfl, hP, hD⟩ d_LW_close_16
theorem x_LW_close {g : Int32} (hfl : l.flags = flags0) (hd : dp = 0) : sx_CtrW l y_LW_close w_LW_close (sx_rm 8 1 6 140) G [.ref (ad 0), .int g, .ref oo] ((wSC G ad qc qb V F T L tc n CH BE cd rf C1 C2 C3 dp) ++ wO G oo f) sx_TS (sx_is G (some (.int 1)) ((wSC G ad qc qb V F T L tc n CH BE cd rf C1 C2 C3 dp) ++ wO G oo f)) := by
  refine sx_Ctr.ofT (by decide +kernel) (Nat.le_of_ble_eq_true rfl) ?_
  intro p e s m below meth c9 ls A C0 ht hr hlk hl hP hD hA hS hB
  have C0 : sx_C p s m c9 b_LW_close 4 sx_LW G := C0
  have hx := C0.1
  have hb := C0.2.1
  have hl : lv_has ls 4 [(0, .ref (ad 0)), (1, .int g), (2, .ref oo)] := hl
  refine lv_aload_n hx hb d_LW_close_0 rfl (lv_at hl 2 rfl) ?_
  refine lv_iconst (v := 0) hx hb d_LW_close_1 (by decide) ?_
  refine lv_aload_n hx hb d_LW_close_2 rfl (lv_at hl 0 rfl) ?_
  refine lv_iload_n hx hb d_LW_close_3 rfl (lv_at hl 1 rfl) ?_
  refine sx_cVX (As := [.int g]) (rest := [.int 0, .ref oo]) (wc := (wSC G ad qc qb V F T L tc n CH BE cd rf C1 C2 C3 dp)) (k0 := 0) C0 hB ⟨Nat.le_refl _, fun _ _ => rfl⟩ (x_SC_close hfl hd) q_LW_15 i_SC_close ⟨Nat.le_of_ble_eq_true rfl, Nat.le_of_ble_eq_true rfl⟩ rfl rfl rfl (sx_mid (wa := []) (wc := (wSC G ad qc qb V F T L tc n CH BE cd rf C1 C2 C3 dp)) (wb := wO G oo f) hP) hl.1 rfl (Nat.le_of_ble_eq_true rfl) d_LW_close_4 ⟨Nat.le_of_ble_eq_true rfl, Nat.le_of_ble_eq_true rfl⟩ (fun x ce H1 h1 h2 h3 h4 h5 h6 => ?_)
  refine sx_TW.caught C0 ht ⟨by decide, by decide⟩ (by decide) sx_clL_ISE sx_cast_ISE h2 h3 h4 ?_
  have hP := sx_growP hP h6
  have hS := sx_growS hS h5 h6
  refine lv_astore_n hx hb d_LW_close_12 rfl hl (by decide) rfl (fun ls hl => ?_)
  have hl : lv_has ls 4 [(3, .ref x), (0, .ref (ad 0)), (1, .int g), (2, .ref oo)] := hl
  refine lv_iconst (v := 1) hx hb d_LW_close_13 (by decide) ?_
  exact sx_iret C0 hr hlk hS ⟨rfl, hP, hD⟩ d_LW_close_14
theorem c_LW_load {a b : Nat} (ha : a < 4) (hb1 : b < 64) (htc : T (64 * a + b) = 0 → tc < 256) : sx_CtrW l y_LW_load w_LW_load (sx_rm 3 0 0 80) G [.ref (ad 0), .int (nI a), .int (nI b), .ref oo] ((wSC G ad qc qb V F T L tc n CH BE cd rf C1 C2 C3 dp) ++ wO G oo f) (fun _ => True) (fun r A H => ∃ (T' L' : Nat → Int32) (tc' : Nat), r = some (.int 0) ∧ p_tch T L tc (64 * a + b) T' L' tc' ∧ va_P G.1 sx_cls (wSC G ad qc qb V F T' L' tc' n CH BE cd rf C1 C2 C3 dp ++ wO G oo (fun _ => ((if T (64 * a + b) = 0 then 2100 else 100) : Int32).toInt64)) H ∧ va_D A (wSC G ad qc qb V F T' L' tc' n CH BE cd rf C1 C2 C3 dp ++ wO G oo (fun _ => ((if T (64 * a + b) = 0 then 2100 else 100) : Int32).toInt64))) := by
  refine sx_Ctr.ofT (by decide +kernel) (Nat.le_of_ble_eq_true rfl) ?_
  intro p e s m below meth c9 ls A C0 ht hr hlk hl hP hD hA hS hB
  have C0 : sx_C p s m c9 b_LW_load 5 sx_LW G := C0
  have hx := C0.1
  have hb := C0.2.1
  have hl : lv_has ls 5 [(0, .ref (ad 0)), (1, .int (nI a)), (2, .int (nI b)), (3, .ref oo)] := hl
  refine lv_aload_n hx hb d_LW_load_0 rfl (lv_at hl 3 rfl) ?_
  refine lv_iconst (v := 0) hx hb d_LW_load_1 (by decide) ?_
  refine lv_aload_n hx hb d_LW_load_2 rfl (lv_at hl 0 rfl) ?_
  refine lv_iload_n hx hb d_LW_load_3 rfl (lv_at hl 1 rfl) ?_
  refine lv_iload_n hx hb d_LW_load_4 rfl (lv_at hl 2 rfl) ?_
  refine sx_cV (As := [.int (nI a), .int (nI b)]) (rest := [.int 0, .ref oo]) (wa := []) (wb := wO G oo f) (k0 := 0) C0 (c_SC_load ha hb1 htc) q_LW_21 i_SC_load ⟨Nat.le_of_ble_eq_true rfl, Nat.le_of_ble_eq_true rfl⟩ rfl rfl rfl hP hD hS hA hl.1 rfl (Nat.le_of_ble_eq_true rfl) d_LW_load_5 ⟨Nat.le_of_ble_eq_true rfl, Nat.le_of_ble_eq_true rfl⟩ (fun r H locs hq hj hS => ?_)
  obtain ⟨T', L', tc', rfl, htch, hP1, hD1⟩ := hq
  obtain ⟨hP, hD⟩ := hj _ hP1 hD1
  have hP : va_P G.1 sx_cls ([(ad 0, .inr (0, [.ref (ad 1), .ref (ad 2), .ref (ad 3), .ref (ad 4), .int (nI dp)])), (ad 2, .inl (G.2 0, 30, .inl C1)), (ad 3, .inl (G.2 0, 30, .inl C2)), (ad 4, .inl (G.2 0, 30, .inl C3)), (ad 1, .inr (1, [.ref (ad 5), .ref (ad 6), .ref (ad 7), .ref (ad 8), .int (nI tc'), .ref qc, .ref qb, .int (nI cd), .int rf])), (ad 5, .inl (G.2 1, 256, .inr (.inl V))), (ad 6, .inl (G.2 1, 256, .inr (.inl F))), (ad 7, .inl (G.2 2, 256, .inl T')), (ad 8, .inl (G.2 0, 256, .inl L')), (qc, .inl (G.2 0, n, .inl CH)), (qb, .inl (G.2 1, n, .inr (.inl BE))), (oo, .inl (G.2 1, 1, .inr (.inl f)))]) H := hP
  have hD : va_D A ([(ad 0, .inr (0, [.ref (ad 1), .ref (ad 2), .ref (ad 3), .ref (ad 4), .int (nI dp)])), (ad 2, .inl (G.2 0, 30, .inl C1)), (ad 3, .inl (G.2 0, 30, .inl C2)), (ad 4, .inl (G.2 0, 30, .inl C3)), (ad 1, .inr (1, [.ref (ad 5), .ref (ad 6), .ref (ad 7), .ref (ad 8), .int (nI tc'), .ref qc, .ref qb, .int (nI cd), .int rf])), (ad 5, .inl (G.2 1, 256, .inr (.inl V))), (ad 6, .inl (G.2 1, 256, .inr (.inl F))), (ad 7, .inl (G.2 2, 256, .inl T')), (ad 8, .inl (G.2 0, 256, .inl L')), (qc, .inl (G.2 0, n, .inl CH)), (qb, .inl (G.2 1, n, .inr (.inl BE))), (oo, .inl (G.2 1, 1, .inr (.inl f)))]) := hD
  refine lv_i2l (v := ((if T (64 * a + b) = 0 then 2100 else 100) : Int32).toInt64) hx hb d_LW_load_8 rfl ?_
  refine sx_last (i := 0) C0 hP hD hS 11 rfl rfl (by decide) (by decide) d_LW_load_9 (fun H locs hP hD hS => ?_)
  have hP : va_P G.1 sx_cls ([(ad 0, .inr (0, [.ref (ad 1), .ref (ad 2), .ref (ad 3), .ref (ad 4), .int (nI dp)])), (ad 2, .inl (G.2 0, 30, .inl C1)), (ad 3, .inl (G.2 0, 30, .inl C2)), (ad 4, .inl (G.2 0, 30, .inl C3)), (ad 1, .inr (1, [.ref (ad 5), .ref (ad 6), .ref (ad 7), .ref (ad 8), .int (nI tc'), .ref qc, .ref qb, .int (nI cd), .int rf])), (ad 5, .inl (G.2 1, 256, .inr (.inl V))), (ad 6, .inl (G.2 1, 256, .inr (.inl F))), (ad 7, .inl (G.2 2, 256, .inl T')), (ad 8, .inl (G.2 0, 256, .inl L')), (qc, .inl (G.2 0, n, .inl CH)), (qb, .inl (G.2 1, n, .inr (.inl BE))), (oo, .inl (G.2 1, 1, .inr (.inl (vp_updL f 0 (((if T (64 * a + b) = 0 then 2100 else 100) : Int32).toInt64)))))]) H := hP
  have hD : va_D A ([(ad 0, .inr (0, [.ref (ad 1), .ref (ad 2), .ref (ad 3), .ref (ad 4), .int (nI dp)])), (ad 2, .inl (G.2 0, 30, .inl C1)), (ad 3, .inl (G.2 0, 30, .inl C2)), (ad 4, .inl (G.2 0, 30, .inl C3)), (ad 1, .inr (1, [.ref (ad 5), .ref (ad 6), .ref (ad 7), .ref (ad 8), .int (nI tc'), .ref qc, .ref qb, .int (nI cd), .int rf])), (ad 5, .inl (G.2 1, 256, .inr (.inl V))), (ad 6, .inl (G.2 1, 256, .inr (.inl F))), (ad 7, .inl (G.2 2, 256, .inl T')), (ad 8, .inl (G.2 0, 256, .inl L')), (qc, .inl (G.2 0, n, .inl CH)), (qb, .inl (G.2 1, n, .inr (.inl BE))), (oo, .inl (G.2 1, 1, .inr (.inl (vp_updL f 0 (((if T (64 * a + b) = 0 then 2100 else 100) : Int32).toInt64)))))]) := hD
  have hP := sx_extA (k := 11) (e1 := (G.2 1, 1, .inr (.inl (fun _ => ((if T (64 * a + b) = 0 then 2100 else 100) : Int32).toInt64)))) hP rfl (sx_cellL (fun j hj => by rw [show j = 0 by omega]; exact pk_uLs))
  have hD := va_D.set (p := 11) (e := .inl (G.2 1, 1, .inr (.inl (fun _ => ((if T (64 * a + b) = 0 then 2100 else 100) : Int32).toInt64)))) hD rfl
  have hP : va_P G.1 sx_cls ([(ad 0, .inr (0, [.ref (ad 1), .ref (ad 2), .ref (ad 3), .ref (ad 4), .int (nI dp)])), (ad 2, .inl (G.2 0, 30, .inl C1)), (ad 3, .inl (G.2 0, 30, .inl C2)), (ad 4, .inl (G.2 0, 30, .inl C3)), (ad 1, .inr (1, [.ref (ad 5), .ref (ad 6), .ref (ad 7), .ref (ad 8), .int (nI tc'), .ref qc, .ref qb, .int (nI cd), .int rf])), (ad 5, .inl (G.2 1, 256, .inr (.inl V))), (ad 6, .inl (G.2 1, 256, .inr (.inl F))), (ad 7, .inl (G.2 2, 256, .inl T')), (ad 8, .inl (G.2 0, 256, .inl L')), (qc, .inl (G.2 0, n, .inl CH)), (qb, .inl (G.2 1, n, .inr (.inl BE))), (oo, .inl (G.2 1, 1, .inr (.inl (fun _ => ((if T (64 * a + b) = 0 then 2100 else 100) : Int32).toInt64))))]) H := hP
  have hD : va_D A ([(ad 0, .inr (0, [.ref (ad 1), .ref (ad 2), .ref (ad 3), .ref (ad 4), .int (nI dp)])), (ad 2, .inl (G.2 0, 30, .inl C1)), (ad 3, .inl (G.2 0, 30, .inl C2)), (ad 4, .inl (G.2 0, 30, .inl C3)), (ad 1, .inr (1, [.ref (ad 5), .ref (ad 6), .ref (ad 7), .ref (ad 8), .int (nI tc'), .ref qc, .ref qb, .int (nI cd), .int rf])), (ad 5, .inl (G.2 1, 256, .inr (.inl V))), (ad 6, .inl (G.2 1, 256, .inr (.inl F))), (ad 7, .inl (G.2 2, 256, .inl T')), (ad 8, .inl (G.2 0, 256, .inl L')), (qc, .inl (G.2 0, n, .inl CH)), (qb, .inl (G.2 1, n, .inr (.inl BE))), (oo, .inl (G.2 1, 1, .inr (.inl (fun _ => ((if T (64 * a + b) = 0 then 2100 else 100) : Int32).toInt64))))]) := hD
  refine lv_goto (tgt := 17) hx hb d_LW_load_10 (by decide) ?_
  refine lv_iconst (v := 0) hx hb d_LW_load_17 (by decide) ?_
  exact sx_iret C0 hr hlk hS ⟨_, _, _, rfl, htch, hP, hD⟩ d_LW_load_18
theorem x_LW_load {o1 p1 : Int32} (hfl : l.flags = flags0) (ho : p_out o1 p1) : sx_CtrW l y_LW_load w_LW_load (sx_rm 8 1 6 140) G [.ref (ad 0), .int o1, .int p1, .ref oo] ((wSC G ad qc qb V F T L tc n CH BE cd rf C1 C2 C3 dp) ++ wO G oo f) sx_TS (sx_is G (some (.int 1)) ((wSC G ad qc qb V F T L tc n CH BE cd rf C1 C2 C3 dp) ++ wO G oo f)) := by
  refine sx_Ctr.ofT (by decide +kernel) (Nat.le_of_ble_eq_true rfl) ?_
  intro p e s m below meth c9 ls A C0 ht hr hlk hl hP hD hA hS hB
  have C0 : sx_C p s m c9 b_LW_load 5 sx_LW G := C0
  have hx := C0.1
  have hb := C0.2.1
  have hl : lv_has ls 5 [(0, .ref (ad 0)), (1, .int o1), (2, .int p1), (3, .ref oo)] := hl
  refine lv_aload_n hx hb d_LW_load_0 rfl (lv_at hl 3 rfl) ?_
  refine lv_iconst (v := 0) hx hb d_LW_load_1 (by decide) ?_
  refine lv_aload_n hx hb d_LW_load_2 rfl (lv_at hl 0 rfl) ?_
  refine lv_iload_n hx hb d_LW_load_3 rfl (lv_at hl 1 rfl) ?_
  refine lv_iload_n hx hb d_LW_load_4 rfl (lv_at hl 2 rfl) ?_
  refine sx_cVX (As := [.int o1, .int p1]) (rest := [.int 0, .ref oo]) (wc := (wSC G ad qc qb V F T L tc n CH BE cd rf C1 C2 C3 dp)) (k0 := 0) C0 hB ⟨Nat.le_refl _, fun _ _ => rfl⟩ (x_SC_load hfl ho) q_LW_21 i_SC_load ⟨Nat.le_of_ble_eq_true rfl, Nat.le_of_ble_eq_true rfl⟩ rfl rfl rfl (sx_mid (wa := []) (wc := (wSC G ad qc qb V F T L tc n CH BE cd rf C1 C2 C3 dp)) (wb := wO G oo f) hP) hl.1 rfl (Nat.le_of_ble_eq_true rfl) d_LW_load_5 ⟨Nat.le_of_ble_eq_true rfl, Nat.le_of_ble_eq_true rfl⟩ (fun x ce H1 h1 h2 h3 h4 h5 h6 => ?_)
  refine sx_TW.caught C0 ht ⟨by decide, by decide⟩ (by decide) sx_clL_IAE sx_cast_IAE h2 h3 h4 ?_
  have hP := sx_growP hP h6
  have hS := sx_growS hS h5 h6
  refine lv_astore hx hb d_LW_load_13 hl (by decide) rfl (fun ls hl => ?_)
  have hl : lv_has ls 5 [(4, .ref x), (0, .ref (ad 0)), (1, .int o1), (2, .int p1), (3, .ref oo)] := hl
  refine lv_iconst (v := 1) hx hb d_LW_load_15 (by decide) ?_
  exact sx_iret C0 hr hlk hS ⟨rfl, hP, hD⟩ d_LW_load_16
theorem c_LW_held1 {a b : Nat} {g : Int32} (ha : a < 4) (hb1 : b < 64) (hg : ¬ g = 0) : sx_CtrW l y_LW_held w_LW_held (sx_rm 3 0 0 80) G [.ref (ad 0), .int (nI a), .int (nI b), .int g, .ref oo] ((wSC G ad qc qb V F T L tc n CH BE cd rf C1 C2 C3 dp) ++ wO G oo f) (fun _ => True) (sx_is G (some (.int 0)) ((wSC G ad qc qb V F T L tc n CH BE cd rf C1 C2 C3 dp) ++ wO G oo (fun _ => F (64 * a + b)))) := by
  refine sx_Ctr.ofT (by decide +kernel) (Nat.le_of_ble_eq_true rfl) ?_
  intro p e s m below meth c9 ls A C0 ht hr hlk hl hP hD hA hS hB
  have C0 : sx_C p s m c9 b_LW_held 6 sx_LW G := C0
  have hx := C0.1
  have hb := C0.2.1
  have hl : lv_has ls 6 [(0, .ref (ad 0)), (1, .int (nI a)), (2, .int (nI b)), (3, .int g), (4, .ref oo)] := hl
  refine lv_aload hx hb d_LW_held_0 (lv_at hl 4 rfl) ?_
  refine lv_iconst (v := 0) hx hb d_LW_held_2 (by decide) ?_
  refine lv_aload_n hx hb d_LW_held_3 rfl (lv_at hl 0 rfl) ?_
  refine lv_iload_n hx hb d_LW_held_4 rfl (lv_at hl 1 rfl) ?_
  refine lv_iload_n hx hb d_LW_held_5 rfl (lv_at hl 2 rfl) ?_
  refine lv_iload_n hx hb d_LW_held_6 rfl (lv_at hl 3 rfl) ?_
  refine sx_cVP (As := [.int (nI a), .int (nI b), .int g]) (rest := [.int 0, .ref oo]) (wc := (wSC G ad qc qb V F T L tc n CH BE cd rf C1 C2 C3 dp)) (k0 := 0) C0 (c_SC_held1 ha hb1 hg) q_LW_31 i_SC_held ⟨Nat.le_of_ble_eq_true rfl, Nat.le_of_ble_eq_true rfl⟩ rfl rfl rfl (sx_mid (wa := []) (wc := (wSC G ad qc qb V F T L tc n CH BE cd rf C1 C2 C3 dp)) (wb := wO G oo f) hP) hl.1 rfl (Nat.le_of_ble_eq_true rfl) d_LW_held_7 ⟨Nat.zero_le _, Nat.zero_le _⟩ ?_
  refine sx_last (i := 0) C0 hP hD hS 11 rfl rfl (by decide) (by decide) d_LW_held_10 (fun H locs hP hD hS => ?_)
  have hP : va_P G.1 sx_cls ([(ad 0, .inr (0, [.ref (ad 1), .ref (ad 2), .ref (ad 3), .ref (ad 4), .int (nI dp)])), (ad 2, .inl (G.2 0, 30, .inl C1)), (ad 3, .inl (G.2 0, 30, .inl C2)), (ad 4, .inl (G.2 0, 30, .inl C3)), (ad 1, .inr (1, [.ref (ad 5), .ref (ad 6), .ref (ad 7), .ref (ad 8), .int (nI tc), .ref qc, .ref qb, .int (nI cd), .int rf])), (ad 5, .inl (G.2 1, 256, .inr (.inl V))), (ad 6, .inl (G.2 1, 256, .inr (.inl F))), (ad 7, .inl (G.2 2, 256, .inl T)), (ad 8, .inl (G.2 0, 256, .inl L)), (qc, .inl (G.2 0, n, .inl CH)), (qb, .inl (G.2 1, n, .inr (.inl BE))), (oo, .inl (G.2 1, 1, .inr (.inl (vp_updL f 0 (F (64 * a + b))))))]) H := hP
  have hD : va_D A ([(ad 0, .inr (0, [.ref (ad 1), .ref (ad 2), .ref (ad 3), .ref (ad 4), .int (nI dp)])), (ad 2, .inl (G.2 0, 30, .inl C1)), (ad 3, .inl (G.2 0, 30, .inl C2)), (ad 4, .inl (G.2 0, 30, .inl C3)), (ad 1, .inr (1, [.ref (ad 5), .ref (ad 6), .ref (ad 7), .ref (ad 8), .int (nI tc), .ref qc, .ref qb, .int (nI cd), .int rf])), (ad 5, .inl (G.2 1, 256, .inr (.inl V))), (ad 6, .inl (G.2 1, 256, .inr (.inl F))), (ad 7, .inl (G.2 2, 256, .inl T)), (ad 8, .inl (G.2 0, 256, .inl L)), (qc, .inl (G.2 0, n, .inl CH)), (qb, .inl (G.2 1, n, .inr (.inl BE))), (oo, .inl (G.2 1, 1, .inr (.inl (vp_updL f 0 (F (64 * a + b))))))]) := hD
  have hP := sx_extA (k := 11) (e1 := (G.2 1, 1, .inr (.inl (fun _ => F (64 * a + b))))) hP rfl (sx_cellL (fun j hj => by rw [show j = 0 by omega]; exact pk_uLs))
  have hD := va_D.set (p := 11) (e := .inl (G.2 1, 1, .inr (.inl (fun _ => F (64 * a + b))))) hD rfl
  have hP : va_P G.1 sx_cls ([(ad 0, .inr (0, [.ref (ad 1), .ref (ad 2), .ref (ad 3), .ref (ad 4), .int (nI dp)])), (ad 2, .inl (G.2 0, 30, .inl C1)), (ad 3, .inl (G.2 0, 30, .inl C2)), (ad 4, .inl (G.2 0, 30, .inl C3)), (ad 1, .inr (1, [.ref (ad 5), .ref (ad 6), .ref (ad 7), .ref (ad 8), .int (nI tc), .ref qc, .ref qb, .int (nI cd), .int rf])), (ad 5, .inl (G.2 1, 256, .inr (.inl V))), (ad 6, .inl (G.2 1, 256, .inr (.inl F))), (ad 7, .inl (G.2 2, 256, .inl T)), (ad 8, .inl (G.2 0, 256, .inl L)), (qc, .inl (G.2 0, n, .inl CH)), (qb, .inl (G.2 1, n, .inr (.inl BE))), (oo, .inl (G.2 1, 1, .inr (.inl (fun _ => F (64 * a + b)))))]) H := hP
  have hD : va_D A ([(ad 0, .inr (0, [.ref (ad 1), .ref (ad 2), .ref (ad 3), .ref (ad 4), .int (nI dp)])), (ad 2, .inl (G.2 0, 30, .inl C1)), (ad 3, .inl (G.2 0, 30, .inl C2)), (ad 4, .inl (G.2 0, 30, .inl C3)), (ad 1, .inr (1, [.ref (ad 5), .ref (ad 6), .ref (ad 7), .ref (ad 8), .int (nI tc), .ref qc, .ref qb, .int (nI cd), .int rf])), (ad 5, .inl (G.2 1, 256, .inr (.inl V))), (ad 6, .inl (G.2 1, 256, .inr (.inl F))), (ad 7, .inl (G.2 2, 256, .inl T)), (ad 8, .inl (G.2 0, 256, .inl L)), (qc, .inl (G.2 0, n, .inl CH)), (qb, .inl (G.2 1, n, .inr (.inl BE))), (oo, .inl (G.2 1, 1, .inr (.inl (fun _ => F (64 * a + b)))))]) := hD
  refine lv_goto (tgt := 18) hx hb d_LW_held_11 (by decide) ?_
  refine lv_iconst (v := 0) hx hb d_LW_held_18 (by decide) ?_
  exact sx_iret C0 hr hlk hS ⟨rfl, hP, hD⟩ d_LW_held_19
theorem c_LW_held0 {a b : Nat} {g : Int32} (ha : a < 4) (hb1 : b < 64) (hg : g = 0) : sx_CtrW l y_LW_held w_LW_held (sx_rm 3 0 0 80) G [.ref (ad 0), .int (nI a), .int (nI b), .int g, .ref oo] ((wSC G ad qc qb V F T L tc n CH BE cd rf C1 C2 C3 dp) ++ wO G oo f) (fun _ => True) (sx_is G (some (.int 0)) ((wSC G ad qc qb V F T L tc n CH BE cd rf C1 C2 C3 dp) ++ wO G oo (fun _ => V (64 * a + b)))) := by
  refine sx_Ctr.ofT (by decide +kernel) (Nat.le_of_ble_eq_true rfl) ?_
  intro p e s m below meth c9 ls A C0 ht hr hlk hl hP hD hA hS hB
  have C0 : sx_C p s m c9 b_LW_held 6 sx_LW G := C0
  have hx := C0.1
  have hb := C0.2.1
  have hl : lv_has ls 6 [(0, .ref (ad 0)), (1, .int (nI a)), (2, .int (nI b)), (3, .int g), (4, .ref oo)] := hl
  refine lv_aload hx hb d_LW_held_0 (lv_at hl 4 rfl) ?_
  refine lv_iconst (v := 0) hx hb d_LW_held_2 (by decide) ?_
  refine lv_aload_n hx hb d_LW_held_3 rfl (lv_at hl 0 rfl) ?_
  refine lv_iload_n hx hb d_LW_held_4 rfl (lv_at hl 1 rfl) ?_
  refine lv_iload_n hx hb d_LW_held_5 rfl (lv_at hl 2 rfl) ?_
  refine lv_iload_n hx hb d_LW_held_6 rfl (lv_at hl 3 rfl) ?_
  refine sx_cVP (As := [.int (nI a), .int (nI b), .int g]) (rest := [.int 0, .ref oo]) (wc := (wSC G ad qc qb V F T L tc n CH BE cd rf C1 C2 C3 dp)) (k0 := 0) C0 (c_SC_held0 ha hb1 hg) q_LW_31 i_SC_held ⟨Nat.le_of_ble_eq_true rfl, Nat.le_of_ble_eq_true rfl⟩ rfl rfl rfl (sx_mid (wa := []) (wc := (wSC G ad qc qb V F T L tc n CH BE cd rf C1 C2 C3 dp)) (wb := wO G oo f) hP) hl.1 rfl (Nat.le_of_ble_eq_true rfl) d_LW_held_7 ⟨Nat.zero_le _, Nat.zero_le _⟩ ?_
  refine sx_last (i := 0) C0 hP hD hS 11 rfl rfl (by decide) (by decide) d_LW_held_10 (fun H locs hP hD hS => ?_)
  have hP : va_P G.1 sx_cls ([(ad 0, .inr (0, [.ref (ad 1), .ref (ad 2), .ref (ad 3), .ref (ad 4), .int (nI dp)])), (ad 2, .inl (G.2 0, 30, .inl C1)), (ad 3, .inl (G.2 0, 30, .inl C2)), (ad 4, .inl (G.2 0, 30, .inl C3)), (ad 1, .inr (1, [.ref (ad 5), .ref (ad 6), .ref (ad 7), .ref (ad 8), .int (nI tc), .ref qc, .ref qb, .int (nI cd), .int rf])), (ad 5, .inl (G.2 1, 256, .inr (.inl V))), (ad 6, .inl (G.2 1, 256, .inr (.inl F))), (ad 7, .inl (G.2 2, 256, .inl T)), (ad 8, .inl (G.2 0, 256, .inl L)), (qc, .inl (G.2 0, n, .inl CH)), (qb, .inl (G.2 1, n, .inr (.inl BE))), (oo, .inl (G.2 1, 1, .inr (.inl (vp_updL f 0 (V (64 * a + b))))))]) H := hP
  have hD : va_D A ([(ad 0, .inr (0, [.ref (ad 1), .ref (ad 2), .ref (ad 3), .ref (ad 4), .int (nI dp)])), (ad 2, .inl (G.2 0, 30, .inl C1)), (ad 3, .inl (G.2 0, 30, .inl C2)), (ad 4, .inl (G.2 0, 30, .inl C3)), (ad 1, .inr (1, [.ref (ad 5), .ref (ad 6), .ref (ad 7), .ref (ad 8), .int (nI tc), .ref qc, .ref qb, .int (nI cd), .int rf])), (ad 5, .inl (G.2 1, 256, .inr (.inl V))), (ad 6, .inl (G.2 1, 256, .inr (.inl F))), (ad 7, .inl (G.2 2, 256, .inl T)), (ad 8, .inl (G.2 0, 256, .inl L)), (qc, .inl (G.2 0, n, .inl CH)), (qb, .inl (G.2 1, n, .inr (.inl BE))), (oo, .inl (G.2 1, 1, .inr (.inl (vp_updL f 0 (V (64 * a + b))))))]) := hD
  have hP := sx_extA (k := 11) (e1 := (G.2 1, 1, .inr (.inl (fun _ => V (64 * a + b))))) hP rfl (sx_cellL (fun j hj => by rw [show j = 0 by omega]; exact pk_uLs))
  have hD := va_D.set (p := 11) (e := .inl (G.2 1, 1, .inr (.inl (fun _ => V (64 * a + b))))) hD rfl
  have hP : va_P G.1 sx_cls ([(ad 0, .inr (0, [.ref (ad 1), .ref (ad 2), .ref (ad 3), .ref (ad 4), .int (nI dp)])), (ad 2, .inl (G.2 0, 30, .inl C1)), (ad 3, .inl (G.2 0, 30, .inl C2)), (ad 4, .inl (G.2 0, 30, .inl C3)), (ad 1, .inr (1, [.ref (ad 5), .ref (ad 6), .ref (ad 7), .ref (ad 8), .int (nI tc), .ref qc, .ref qb, .int (nI cd), .int rf])), (ad 5, .inl (G.2 1, 256, .inr (.inl V))), (ad 6, .inl (G.2 1, 256, .inr (.inl F))), (ad 7, .inl (G.2 2, 256, .inl T)), (ad 8, .inl (G.2 0, 256, .inl L)), (qc, .inl (G.2 0, n, .inl CH)), (qb, .inl (G.2 1, n, .inr (.inl BE))), (oo, .inl (G.2 1, 1, .inr (.inl (fun _ => V (64 * a + b)))))]) H := hP
  have hD : va_D A ([(ad 0, .inr (0, [.ref (ad 1), .ref (ad 2), .ref (ad 3), .ref (ad 4), .int (nI dp)])), (ad 2, .inl (G.2 0, 30, .inl C1)), (ad 3, .inl (G.2 0, 30, .inl C2)), (ad 4, .inl (G.2 0, 30, .inl C3)), (ad 1, .inr (1, [.ref (ad 5), .ref (ad 6), .ref (ad 7), .ref (ad 8), .int (nI tc), .ref qc, .ref qb, .int (nI cd), .int rf])), (ad 5, .inl (G.2 1, 256, .inr (.inl V))), (ad 6, .inl (G.2 1, 256, .inr (.inl F))), (ad 7, .inl (G.2 2, 256, .inl T)), (ad 8, .inl (G.2 0, 256, .inl L)), (qc, .inl (G.2 0, n, .inl CH)), (qb, .inl (G.2 1, n, .inr (.inl BE))), (oo, .inl (G.2 1, 1, .inr (.inl (fun _ => V (64 * a + b)))))]) := hD
  refine lv_goto (tgt := 18) hx hb d_LW_held_11 (by decide) ?_
  refine lv_iconst (v := 0) hx hb d_LW_held_18 (by decide) ?_
  exact sx_iret C0 hr hlk hS ⟨rfl, hP, hD⟩ d_LW_held_19
theorem x_LW_held {o1 p1 g : Int32} (hfl : l.flags = flags0) (ho : p_out o1 p1) : sx_CtrW l y_LW_held w_LW_held (sx_rm 8 1 6 140) G [.ref (ad 0), .int o1, .int p1, .int g, .ref oo] ((wSC G ad qc qb V F T L tc n CH BE cd rf C1 C2 C3 dp) ++ wO G oo f) sx_TS (sx_is G (some (.int 1)) ((wSC G ad qc qb V F T L tc n CH BE cd rf C1 C2 C3 dp) ++ wO G oo f)) := by
  refine sx_Ctr.ofT (by decide +kernel) (Nat.le_of_ble_eq_true rfl) ?_
  intro p e s m below meth c9 ls A C0 ht hr hlk hl hP hD hA hS hB
  have C0 : sx_C p s m c9 b_LW_held 6 sx_LW G := C0
  have hx := C0.1
  have hb := C0.2.1
  have hl : lv_has ls 6 [(0, .ref (ad 0)), (1, .int o1), (2, .int p1), (3, .int g), (4, .ref oo)] := hl
  refine lv_aload hx hb d_LW_held_0 (lv_at hl 4 rfl) ?_
  refine lv_iconst (v := 0) hx hb d_LW_held_2 (by decide) ?_
  refine lv_aload_n hx hb d_LW_held_3 rfl (lv_at hl 0 rfl) ?_
  refine lv_iload_n hx hb d_LW_held_4 rfl (lv_at hl 1 rfl) ?_
  refine lv_iload_n hx hb d_LW_held_5 rfl (lv_at hl 2 rfl) ?_
  refine lv_iload_n hx hb d_LW_held_6 rfl (lv_at hl 3 rfl) ?_
  refine sx_cVX (As := [.int o1, .int p1, .int g]) (rest := [.int 0, .ref oo]) (wc := (wSC G ad qc qb V F T L tc n CH BE cd rf C1 C2 C3 dp)) (k0 := 0) C0 hB ⟨Nat.le_refl _, fun _ _ => rfl⟩ (x_SC_held hfl ho) q_LW_31 i_SC_held ⟨Nat.le_of_ble_eq_true rfl, Nat.le_of_ble_eq_true rfl⟩ rfl rfl rfl (sx_mid (wa := []) (wc := (wSC G ad qc qb V F T L tc n CH BE cd rf C1 C2 C3 dp)) (wb := wO G oo f) hP) hl.1 rfl (Nat.le_of_ble_eq_true rfl) d_LW_held_7 ⟨Nat.le_of_ble_eq_true rfl, Nat.le_of_ble_eq_true rfl⟩ (fun x ce H1 h1 h2 h3 h4 h5 h6 => ?_)
  refine sx_TW.caught C0 ht ⟨by decide, by decide⟩ (by decide) sx_clL_IAE sx_cast_IAE h2 h3 h4 ?_
  have hP := sx_growP hP h6
  have hS := sx_growS hS h5 h6
  refine lv_astore hx hb d_LW_held_14 hl (by decide) rfl (fun ls hl => ?_)
  have hl : lv_has ls 6 [(5, .ref x), (0, .ref (ad 0)), (1, .int o1), (2, .int p1), (3, .int g), (4, .ref oo)] := hl
  refine lv_iconst (v := 1) hx hb d_LW_held_16 (by decide) ?_
  exact sx_iret C0 hr hlk hS ⟨rfl, hP, hD⟩ d_LW_held_17
theorem c_LW_touched {a b : Nat} (ha : a < 4) (hb1 : b < 64) (hz : narrow .boolean (.int (T (64 * a + b))) = .int (T (64 * a + b))) : sx_CtrW l y_LW_touched w_LW_touched (sx_rm 3 0 0 80) G [.ref (ad 0), .int (nI a), .int (nI b), .ref oo] ((wSC G ad qc qb V F T L tc n CH BE cd rf C1 C2 C3 dp) ++ wO G oo f) (fun _ => True) (sx_is G (some (.int 0)) ((wSC G ad qc qb V F T L tc n CH BE cd rf C1 C2 C3 dp) ++ wO G oo (fun _ => (if T (64 * a + b) = 0 then 0 else 1)))) := by
  refine sx_Ctr.ofT (by decide +kernel) (Nat.le_of_ble_eq_true rfl) ?_
  intro p e s m below meth c9 ls A C0 ht hr hlk hl hP hD hA hS hB
  have C0 : sx_C p s m c9 b_LW_touched 5 sx_LW G := C0
  have hx := C0.1
  have hb := C0.2.1
  have hl : lv_has ls 5 [(0, .ref (ad 0)), (1, .int (nI a)), (2, .int (nI b)), (3, .ref oo)] := hl
  refine lv_aload_n hx hb d_LW_touched_0 rfl (lv_at hl 3 rfl) ?_
  refine lv_iconst (v := 0) hx hb d_LW_touched_1 (by decide) ?_
  refine lv_aload_n hx hb d_LW_touched_2 rfl (lv_at hl 0 rfl) ?_
  refine lv_iload_n hx hb d_LW_touched_3 rfl (lv_at hl 1 rfl) ?_
  refine lv_iload_n hx hb d_LW_touched_4 rfl (lv_at hl 2 rfl) ?_
  refine sx_cVP (As := [.int (nI a), .int (nI b)]) (rest := [.int 0, .ref oo]) (wc := (wSC G ad qc qb V F T L tc n CH BE cd rf C1 C2 C3 dp)) (k0 := 0) C0 (c_SC_touched ha hb1 hz) q_LW_35 i_SC_touched ⟨Nat.le_of_ble_eq_true rfl, Nat.le_of_ble_eq_true rfl⟩ rfl rfl rfl (sx_mid (wa := []) (wc := (wSC G ad qc qb V F T L tc n CH BE cd rf C1 C2 C3 dp)) (wb := wO G oo f) hP) hl.1 rfl (Nat.le_of_ble_eq_true rfl) d_LW_touched_5 ⟨Nat.zero_le _, Nat.zero_le _⟩ ?_
  refine lv_if_eq (tgt := 15) hx hb d_LW_touched_8 (by decide) (fun h1 => ?_) (fun h1 => ?_)
  · rw [if_pos h1]
    refine lv_lconst (v := 0) hx hb d_LW_touched_15 (by decide) ?_
    refine sx_last (i := 0) C0 hP hD hS 11 rfl rfl (by decide) (by decide) d_LW_touched_16 (fun H locs hP hD hS => ?_)
    have hP : va_P G.1 sx_cls ([(ad 0, .inr (0, [.ref (ad 1), .ref (ad 2), .ref (ad 3), .ref (ad 4), .int (nI dp)])), (ad 2, .inl (G.2 0, 30, .inl C1)), (ad 3, .inl (G.2 0, 30, .inl C2)), (ad 4, .inl (G.2 0, 30, .inl C3)), (ad 1, .inr (1, [.ref (ad 5), .ref (ad 6), .ref (ad 7), .ref (ad 8), .int (nI tc), .ref qc, .ref qb, .int (nI cd), .int rf])), (ad 5, .inl (G.2 1, 256, .inr (.inl V))), (ad 6, .inl (G.2 1, 256, .inr (.inl F))), (ad 7, .inl (G.2 2, 256, .inl T)), (ad 8, .inl (G.2 0, 256, .inl L)), (qc, .inl (G.2 0, n, .inl CH)), (qb, .inl (G.2 1, n, .inr (.inl BE))), (oo, .inl (G.2 1, 1, .inr (.inl (vp_updL f 0 0))))]) H := hP
    have hD : va_D A ([(ad 0, .inr (0, [.ref (ad 1), .ref (ad 2), .ref (ad 3), .ref (ad 4), .int (nI dp)])), (ad 2, .inl (G.2 0, 30, .inl C1)), (ad 3, .inl (G.2 0, 30, .inl C2)), (ad 4, .inl (G.2 0, 30, .inl C3)), (ad 1, .inr (1, [.ref (ad 5), .ref (ad 6), .ref (ad 7), .ref (ad 8), .int (nI tc), .ref qc, .ref qb, .int (nI cd), .int rf])), (ad 5, .inl (G.2 1, 256, .inr (.inl V))), (ad 6, .inl (G.2 1, 256, .inr (.inl F))), (ad 7, .inl (G.2 2, 256, .inl T)), (ad 8, .inl (G.2 0, 256, .inl L)), (qc, .inl (G.2 0, n, .inl CH)), (qb, .inl (G.2 1, n, .inr (.inl BE))), (oo, .inl (G.2 1, 1, .inr (.inl (vp_updL f 0 0))))]) := hD
    have hP := sx_extA (k := 11) (e1 := (G.2 1, 1, .inr (.inl (fun _ => 0)))) hP rfl (sx_cellL (fun j hj => by rw [show j = 0 by omega]; exact pk_uLs))
    have hD := va_D.set (p := 11) (e := .inl (G.2 1, 1, .inr (.inl (fun _ => 0)))) hD rfl
    have hP : va_P G.1 sx_cls ([(ad 0, .inr (0, [.ref (ad 1), .ref (ad 2), .ref (ad 3), .ref (ad 4), .int (nI dp)])), (ad 2, .inl (G.2 0, 30, .inl C1)), (ad 3, .inl (G.2 0, 30, .inl C2)), (ad 4, .inl (G.2 0, 30, .inl C3)), (ad 1, .inr (1, [.ref (ad 5), .ref (ad 6), .ref (ad 7), .ref (ad 8), .int (nI tc), .ref qc, .ref qb, .int (nI cd), .int rf])), (ad 5, .inl (G.2 1, 256, .inr (.inl V))), (ad 6, .inl (G.2 1, 256, .inr (.inl F))), (ad 7, .inl (G.2 2, 256, .inl T)), (ad 8, .inl (G.2 0, 256, .inl L)), (qc, .inl (G.2 0, n, .inl CH)), (qb, .inl (G.2 1, n, .inr (.inl BE))), (oo, .inl (G.2 1, 1, .inr (.inl (fun _ => 0))))]) H := hP
    have hD : va_D A ([(ad 0, .inr (0, [.ref (ad 1), .ref (ad 2), .ref (ad 3), .ref (ad 4), .int (nI dp)])), (ad 2, .inl (G.2 0, 30, .inl C1)), (ad 3, .inl (G.2 0, 30, .inl C2)), (ad 4, .inl (G.2 0, 30, .inl C3)), (ad 1, .inr (1, [.ref (ad 5), .ref (ad 6), .ref (ad 7), .ref (ad 8), .int (nI tc), .ref qc, .ref qb, .int (nI cd), .int rf])), (ad 5, .inl (G.2 1, 256, .inr (.inl V))), (ad 6, .inl (G.2 1, 256, .inr (.inl F))), (ad 7, .inl (G.2 2, 256, .inl T)), (ad 8, .inl (G.2 0, 256, .inl L)), (qc, .inl (G.2 0, n, .inl CH)), (qb, .inl (G.2 1, n, .inr (.inl BE))), (oo, .inl (G.2 1, 1, .inr (.inl (fun _ => 0))))]) := hD
    refine lv_goto (tgt := 24) hx hb d_LW_touched_17 (by decide) ?_
    refine lv_iconst (v := 0) hx hb d_LW_touched_24 (by decide) ?_
    exact sx_iret C0 hr hlk hS ⟨rfl, hP, hD⟩ d_LW_touched_25
  · rw [if_neg h1]
    refine lv_lconst (v := 1) hx hb d_LW_touched_11 (by decide) ?_
    refine lv_goto (tgt := 16) hx hb d_LW_touched_12 (by decide) ?_
    refine sx_last (i := 0) C0 hP hD hS 11 rfl rfl (by decide) (by decide) d_LW_touched_16 (fun H locs hP hD hS => ?_)
    have hP : va_P G.1 sx_cls ([(ad 0, .inr (0, [.ref (ad 1), .ref (ad 2), .ref (ad 3), .ref (ad 4), .int (nI dp)])), (ad 2, .inl (G.2 0, 30, .inl C1)), (ad 3, .inl (G.2 0, 30, .inl C2)), (ad 4, .inl (G.2 0, 30, .inl C3)), (ad 1, .inr (1, [.ref (ad 5), .ref (ad 6), .ref (ad 7), .ref (ad 8), .int (nI tc), .ref qc, .ref qb, .int (nI cd), .int rf])), (ad 5, .inl (G.2 1, 256, .inr (.inl V))), (ad 6, .inl (G.2 1, 256, .inr (.inl F))), (ad 7, .inl (G.2 2, 256, .inl T)), (ad 8, .inl (G.2 0, 256, .inl L)), (qc, .inl (G.2 0, n, .inl CH)), (qb, .inl (G.2 1, n, .inr (.inl BE))), (oo, .inl (G.2 1, 1, .inr (.inl (vp_updL f 0 1))))]) H := hP
    have hD : va_D A ([(ad 0, .inr (0, [.ref (ad 1), .ref (ad 2), .ref (ad 3), .ref (ad 4), .int (nI dp)])), (ad 2, .inl (G.2 0, 30, .inl C1)), (ad 3, .inl (G.2 0, 30, .inl C2)), (ad 4, .inl (G.2 0, 30, .inl C3)), (ad 1, .inr (1, [.ref (ad 5), .ref (ad 6), .ref (ad 7), .ref (ad 8), .int (nI tc), .ref qc, .ref qb, .int (nI cd), .int rf])), (ad 5, .inl (G.2 1, 256, .inr (.inl V))), (ad 6, .inl (G.2 1, 256, .inr (.inl F))), (ad 7, .inl (G.2 2, 256, .inl T)), (ad 8, .inl (G.2 0, 256, .inl L)), (qc, .inl (G.2 0, n, .inl CH)), (qb, .inl (G.2 1, n, .inr (.inl BE))), (oo, .inl (G.2 1, 1, .inr (.inl (vp_updL f 0 1))))]) := hD
    have hP := sx_extA (k := 11) (e1 := (G.2 1, 1, .inr (.inl (fun _ => 1)))) hP rfl (sx_cellL (fun j hj => by rw [show j = 0 by omega]; exact pk_uLs))
    have hD := va_D.set (p := 11) (e := .inl (G.2 1, 1, .inr (.inl (fun _ => 1)))) hD rfl
    have hP : va_P G.1 sx_cls ([(ad 0, .inr (0, [.ref (ad 1), .ref (ad 2), .ref (ad 3), .ref (ad 4), .int (nI dp)])), (ad 2, .inl (G.2 0, 30, .inl C1)), (ad 3, .inl (G.2 0, 30, .inl C2)), (ad 4, .inl (G.2 0, 30, .inl C3)), (ad 1, .inr (1, [.ref (ad 5), .ref (ad 6), .ref (ad 7), .ref (ad 8), .int (nI tc), .ref qc, .ref qb, .int (nI cd), .int rf])), (ad 5, .inl (G.2 1, 256, .inr (.inl V))), (ad 6, .inl (G.2 1, 256, .inr (.inl F))), (ad 7, .inl (G.2 2, 256, .inl T)), (ad 8, .inl (G.2 0, 256, .inl L)), (qc, .inl (G.2 0, n, .inl CH)), (qb, .inl (G.2 1, n, .inr (.inl BE))), (oo, .inl (G.2 1, 1, .inr (.inl (fun _ => 1))))]) H := hP
    have hD : va_D A ([(ad 0, .inr (0, [.ref (ad 1), .ref (ad 2), .ref (ad 3), .ref (ad 4), .int (nI dp)])), (ad 2, .inl (G.2 0, 30, .inl C1)), (ad 3, .inl (G.2 0, 30, .inl C2)), (ad 4, .inl (G.2 0, 30, .inl C3)), (ad 1, .inr (1, [.ref (ad 5), .ref (ad 6), .ref (ad 7), .ref (ad 8), .int (nI tc), .ref qc, .ref qb, .int (nI cd), .int rf])), (ad 5, .inl (G.2 1, 256, .inr (.inl V))), (ad 6, .inl (G.2 1, 256, .inr (.inl F))), (ad 7, .inl (G.2 2, 256, .inl T)), (ad 8, .inl (G.2 0, 256, .inl L)), (qc, .inl (G.2 0, n, .inl CH)), (qb, .inl (G.2 1, n, .inr (.inl BE))), (oo, .inl (G.2 1, 1, .inr (.inl (fun _ => 1))))]) := hD
    refine lv_goto (tgt := 24) hx hb d_LW_touched_17 (by decide) ?_
    refine lv_iconst (v := 0) hx hb d_LW_touched_24 (by decide) ?_
    exact sx_iret C0 hr hlk hS ⟨rfl, hP, hD⟩ d_LW_touched_25
theorem x_LW_touched {o1 p1 : Int32} (hfl : l.flags = flags0) (ho : p_out o1 p1) : sx_CtrW l y_LW_touched w_LW_touched (sx_rm 8 1 6 140) G [.ref (ad 0), .int o1, .int p1, .ref oo] ((wSC G ad qc qb V F T L tc n CH BE cd rf C1 C2 C3 dp) ++ wO G oo f) sx_TS (sx_is G (some (.int 1)) ((wSC G ad qc qb V F T L tc n CH BE cd rf C1 C2 C3 dp) ++ wO G oo f)) := by
  refine sx_Ctr.ofT (by decide +kernel) (Nat.le_of_ble_eq_true rfl) ?_
  intro p e s m below meth c9 ls A C0 ht hr hlk hl hP hD hA hS hB
  have C0 : sx_C p s m c9 b_LW_touched 5 sx_LW G := C0
  have hx := C0.1
  have hb := C0.2.1
  have hl : lv_has ls 5 [(0, .ref (ad 0)), (1, .int o1), (2, .int p1), (3, .ref oo)] := hl
  refine lv_aload_n hx hb d_LW_touched_0 rfl (lv_at hl 3 rfl) ?_
  refine lv_iconst (v := 0) hx hb d_LW_touched_1 (by decide) ?_
  refine lv_aload_n hx hb d_LW_touched_2 rfl (lv_at hl 0 rfl) ?_
  refine lv_iload_n hx hb d_LW_touched_3 rfl (lv_at hl 1 rfl) ?_
  refine lv_iload_n hx hb d_LW_touched_4 rfl (lv_at hl 2 rfl) ?_
  refine sx_cVX (As := [.int o1, .int p1]) (rest := [.int 0, .ref oo]) (wc := (wSC G ad qc qb V F T L tc n CH BE cd rf C1 C2 C3 dp)) (k0 := 0) C0 hB ⟨Nat.le_refl _, fun _ _ => rfl⟩ (x_SC_touched hfl ho) q_LW_35 i_SC_touched ⟨Nat.le_of_ble_eq_true rfl, Nat.le_of_ble_eq_true rfl⟩ rfl rfl rfl (sx_mid (wa := []) (wc := (wSC G ad qc qb V F T L tc n CH BE cd rf C1 C2 C3 dp)) (wb := wO G oo f) hP) hl.1 rfl (Nat.le_of_ble_eq_true rfl) d_LW_touched_5 ⟨Nat.le_of_ble_eq_true rfl, Nat.le_of_ble_eq_true rfl⟩ (fun x ce H1 h1 h2 h3 h4 h5 h6 => ?_)
  refine sx_TW.caught C0 ht ⟨by decide, by decide⟩ (by decide) sx_clL_IAE sx_cast_IAE h2 h3 h4 ?_
  have hP := sx_growP hP h6
  have hS := sx_growS hS h5 h6
  refine lv_astore hx hb d_LW_touched_20 hl (by decide) rfl (fun ls hl => ?_)
  have hl : lv_has ls 5 [(4, .ref x), (0, .ref (ad 0)), (1, .int o1), (2, .int p1), (3, .ref oo)] := hl
  refine lv_iconst (v := 1) hx hb d_LW_touched_22 (by decide) ?_
  exact sx_iret C0 hr hlk hS ⟨rfl, hP, hD⟩ d_LW_touched_23
theorem c_LW_count0 : sx_CtrW l y_LW_count w_LW_count (sx_rm 3 0 0 80) G [.ref (ad 0), .int (nI 0), .ref oo] ((wSC G ad qc qb V F T L tc n CH BE cd rf C1 C2 C3 dp) ++ wO G oo f) (fun _ => True) (sx_is G (some (.int 0)) ((wSC G ad qc qb V F T L tc n CH BE cd rf C1 C2 C3 dp) ++ wO G oo (fun _ => rf.toInt64))) := by
  refine sx_Ctr.ofT (by decide +kernel) (Nat.le_of_ble_eq_true rfl) ?_
  intro p e s m below meth c9 ls A C0 ht hr hlk hl hP hD hA hS hB
  have C0 : sx_C p s m c9 b_LW_count 4 sx_LW G := C0
  have hx := C0.1
  have hb := C0.2.1
  have hl : lv_has ls 4 [(0, .ref (ad 0)), (1, .int (nI 0)), (2, .ref oo)] := hl
  refine lv_aload_n hx hb d_LW_count_0 rfl (lv_at hl 2 rfl) ?_
  refine lv_iconst (v := 0) hx hb d_LW_count_1 (by decide) ?_
  refine lv_aload_n hx hb d_LW_count_2 rfl (lv_at hl 0 rfl) ?_
  refine lv_iload_n hx hb d_LW_count_3 rfl (lv_at hl 1 rfl) ?_
  refine sx_cVP (As := [.int (nI 0)]) (rest := [.int 0, .ref oo]) (wc := (wSC G ad qc qb V F T L tc n CH BE cd rf C1 C2 C3 dp)) (k0 := 0) C0 c_SC_count0 q_LW_39 i_SC_count ⟨Nat.le_of_ble_eq_true rfl, Nat.le_of_ble_eq_true rfl⟩ rfl rfl rfl (sx_mid (wa := []) (wc := (wSC G ad qc qb V F T L tc n CH BE cd rf C1 C2 C3 dp)) (wb := wO G oo f) hP) hl.1 rfl (Nat.le_of_ble_eq_true rfl) d_LW_count_4 ⟨Nat.zero_le _, Nat.zero_le _⟩ ?_
  refine lv_i2l (v := rf.toInt64) hx hb d_LW_count_7 rfl ?_
  refine sx_last (i := 0) C0 hP hD hS 11 rfl rfl (by decide) (by decide) d_LW_count_8 (fun H locs hP hD hS => ?_)
  have hP : va_P G.1 sx_cls ([(ad 0, .inr (0, [.ref (ad 1), .ref (ad 2), .ref (ad 3), .ref (ad 4), .int (nI dp)])), (ad 2, .inl (G.2 0, 30, .inl C1)), (ad 3, .inl (G.2 0, 30, .inl C2)), (ad 4, .inl (G.2 0, 30, .inl C3)), (ad 1, .inr (1, [.ref (ad 5), .ref (ad 6), .ref (ad 7), .ref (ad 8), .int (nI tc), .ref qc, .ref qb, .int (nI cd), .int rf])), (ad 5, .inl (G.2 1, 256, .inr (.inl V))), (ad 6, .inl (G.2 1, 256, .inr (.inl F))), (ad 7, .inl (G.2 2, 256, .inl T)), (ad 8, .inl (G.2 0, 256, .inl L)), (qc, .inl (G.2 0, n, .inl CH)), (qb, .inl (G.2 1, n, .inr (.inl BE))), (oo, .inl (G.2 1, 1, .inr (.inl (vp_updL f 0 rf.toInt64))))]) H := hP
  have hD : va_D A ([(ad 0, .inr (0, [.ref (ad 1), .ref (ad 2), .ref (ad 3), .ref (ad 4), .int (nI dp)])), (ad 2, .inl (G.2 0, 30, .inl C1)), (ad 3, .inl (G.2 0, 30, .inl C2)), (ad 4, .inl (G.2 0, 30, .inl C3)), (ad 1, .inr (1, [.ref (ad 5), .ref (ad 6), .ref (ad 7), .ref (ad 8), .int (nI tc), .ref qc, .ref qb, .int (nI cd), .int rf])), (ad 5, .inl (G.2 1, 256, .inr (.inl V))), (ad 6, .inl (G.2 1, 256, .inr (.inl F))), (ad 7, .inl (G.2 2, 256, .inl T)), (ad 8, .inl (G.2 0, 256, .inl L)), (qc, .inl (G.2 0, n, .inl CH)), (qb, .inl (G.2 1, n, .inr (.inl BE))), (oo, .inl (G.2 1, 1, .inr (.inl (vp_updL f 0 rf.toInt64))))]) := hD
  have hP := sx_extA (k := 11) (e1 := (G.2 1, 1, .inr (.inl (fun _ => rf.toInt64)))) hP rfl (sx_cellL (fun j hj => by rw [show j = 0 by omega]; exact pk_uLs))
  have hD := va_D.set (p := 11) (e := .inl (G.2 1, 1, .inr (.inl (fun _ => rf.toInt64)))) hD rfl
  have hP : va_P G.1 sx_cls ([(ad 0, .inr (0, [.ref (ad 1), .ref (ad 2), .ref (ad 3), .ref (ad 4), .int (nI dp)])), (ad 2, .inl (G.2 0, 30, .inl C1)), (ad 3, .inl (G.2 0, 30, .inl C2)), (ad 4, .inl (G.2 0, 30, .inl C3)), (ad 1, .inr (1, [.ref (ad 5), .ref (ad 6), .ref (ad 7), .ref (ad 8), .int (nI tc), .ref qc, .ref qb, .int (nI cd), .int rf])), (ad 5, .inl (G.2 1, 256, .inr (.inl V))), (ad 6, .inl (G.2 1, 256, .inr (.inl F))), (ad 7, .inl (G.2 2, 256, .inl T)), (ad 8, .inl (G.2 0, 256, .inl L)), (qc, .inl (G.2 0, n, .inl CH)), (qb, .inl (G.2 1, n, .inr (.inl BE))), (oo, .inl (G.2 1, 1, .inr (.inl (fun _ => rf.toInt64))))]) H := hP
  have hD : va_D A ([(ad 0, .inr (0, [.ref (ad 1), .ref (ad 2), .ref (ad 3), .ref (ad 4), .int (nI dp)])), (ad 2, .inl (G.2 0, 30, .inl C1)), (ad 3, .inl (G.2 0, 30, .inl C2)), (ad 4, .inl (G.2 0, 30, .inl C3)), (ad 1, .inr (1, [.ref (ad 5), .ref (ad 6), .ref (ad 7), .ref (ad 8), .int (nI tc), .ref qc, .ref qb, .int (nI cd), .int rf])), (ad 5, .inl (G.2 1, 256, .inr (.inl V))), (ad 6, .inl (G.2 1, 256, .inr (.inl F))), (ad 7, .inl (G.2 2, 256, .inl T)), (ad 8, .inl (G.2 0, 256, .inl L)), (qc, .inl (G.2 0, n, .inl CH)), (qb, .inl (G.2 1, n, .inr (.inl BE))), (oo, .inl (G.2 1, 1, .inr (.inl (fun _ => rf.toInt64))))]) := hD
  refine lv_goto (tgt := 15) hx hb d_LW_count_9 (by decide) ?_
  refine lv_iconst (v := 0) hx hb d_LW_count_15 (by decide) ?_
  exact sx_iret C0 hr hlk hS ⟨rfl, hP, hD⟩ d_LW_count_16
theorem c_LW_count1 : sx_CtrW l y_LW_count w_LW_count (sx_rm 3 0 0 80) G [.ref (ad 0), .int (nI 1), .ref oo] ((wSC G ad qc qb V F T L tc n CH BE cd rf C1 C2 C3 dp) ++ wO G oo f) (fun _ => True) (sx_is G (some (.int 0)) ((wSC G ad qc qb V F T L tc n CH BE cd rf C1 C2 C3 dp) ++ wO G oo (fun _ => (nI tc).toInt64))) := by
  refine sx_Ctr.ofT (by decide +kernel) (Nat.le_of_ble_eq_true rfl) ?_
  intro p e s m below meth c9 ls A C0 ht hr hlk hl hP hD hA hS hB
  have C0 : sx_C p s m c9 b_LW_count 4 sx_LW G := C0
  have hx := C0.1
  have hb := C0.2.1
  have hl : lv_has ls 4 [(0, .ref (ad 0)), (1, .int (nI 1)), (2, .ref oo)] := hl
  refine lv_aload_n hx hb d_LW_count_0 rfl (lv_at hl 2 rfl) ?_
  refine lv_iconst (v := 0) hx hb d_LW_count_1 (by decide) ?_
  refine lv_aload_n hx hb d_LW_count_2 rfl (lv_at hl 0 rfl) ?_
  refine lv_iload_n hx hb d_LW_count_3 rfl (lv_at hl 1 rfl) ?_
  refine sx_cVP (As := [.int (nI 1)]) (rest := [.int 0, .ref oo]) (wc := (wSC G ad qc qb V F T L tc n CH BE cd rf C1 C2 C3 dp)) (k0 := 0) C0 c_SC_count1 q_LW_39 i_SC_count ⟨Nat.le_of_ble_eq_true rfl, Nat.le_of_ble_eq_true rfl⟩ rfl rfl rfl (sx_mid (wa := []) (wc := (wSC G ad qc qb V F T L tc n CH BE cd rf C1 C2 C3 dp)) (wb := wO G oo f) hP) hl.1 rfl (Nat.le_of_ble_eq_true rfl) d_LW_count_4 ⟨Nat.zero_le _, Nat.zero_le _⟩ ?_
  refine lv_i2l (v := (nI tc).toInt64) hx hb d_LW_count_7 rfl ?_
  refine sx_last (i := 0) C0 hP hD hS 11 rfl rfl (by decide) (by decide) d_LW_count_8 (fun H locs hP hD hS => ?_)
  have hP : va_P G.1 sx_cls ([(ad 0, .inr (0, [.ref (ad 1), .ref (ad 2), .ref (ad 3), .ref (ad 4), .int (nI dp)])), (ad 2, .inl (G.2 0, 30, .inl C1)), (ad 3, .inl (G.2 0, 30, .inl C2)), (ad 4, .inl (G.2 0, 30, .inl C3)), (ad 1, .inr (1, [.ref (ad 5), .ref (ad 6), .ref (ad 7), .ref (ad 8), .int (nI tc), .ref qc, .ref qb, .int (nI cd), .int rf])), (ad 5, .inl (G.2 1, 256, .inr (.inl V))), (ad 6, .inl (G.2 1, 256, .inr (.inl F))), (ad 7, .inl (G.2 2, 256, .inl T)), (ad 8, .inl (G.2 0, 256, .inl L)), (qc, .inl (G.2 0, n, .inl CH)), (qb, .inl (G.2 1, n, .inr (.inl BE))), (oo, .inl (G.2 1, 1, .inr (.inl (vp_updL f 0 ((nI tc).toInt64)))))]) H := hP
  have hD : va_D A ([(ad 0, .inr (0, [.ref (ad 1), .ref (ad 2), .ref (ad 3), .ref (ad 4), .int (nI dp)])), (ad 2, .inl (G.2 0, 30, .inl C1)), (ad 3, .inl (G.2 0, 30, .inl C2)), (ad 4, .inl (G.2 0, 30, .inl C3)), (ad 1, .inr (1, [.ref (ad 5), .ref (ad 6), .ref (ad 7), .ref (ad 8), .int (nI tc), .ref qc, .ref qb, .int (nI cd), .int rf])), (ad 5, .inl (G.2 1, 256, .inr (.inl V))), (ad 6, .inl (G.2 1, 256, .inr (.inl F))), (ad 7, .inl (G.2 2, 256, .inl T)), (ad 8, .inl (G.2 0, 256, .inl L)), (qc, .inl (G.2 0, n, .inl CH)), (qb, .inl (G.2 1, n, .inr (.inl BE))), (oo, .inl (G.2 1, 1, .inr (.inl (vp_updL f 0 ((nI tc).toInt64)))))]) := hD
  have hP := sx_extA (k := 11) (e1 := (G.2 1, 1, .inr (.inl (fun _ => (nI tc).toInt64)))) hP rfl (sx_cellL (fun j hj => by rw [show j = 0 by omega]; exact pk_uLs))
  have hD := va_D.set (p := 11) (e := .inl (G.2 1, 1, .inr (.inl (fun _ => (nI tc).toInt64)))) hD rfl
  have hP : va_P G.1 sx_cls ([(ad 0, .inr (0, [.ref (ad 1), .ref (ad 2), .ref (ad 3), .ref (ad 4), .int (nI dp)])), (ad 2, .inl (G.2 0, 30, .inl C1)), (ad 3, .inl (G.2 0, 30, .inl C2)), (ad 4, .inl (G.2 0, 30, .inl C3)), (ad 1, .inr (1, [.ref (ad 5), .ref (ad 6), .ref (ad 7), .ref (ad 8), .int (nI tc), .ref qc, .ref qb, .int (nI cd), .int rf])), (ad 5, .inl (G.2 1, 256, .inr (.inl V))), (ad 6, .inl (G.2 1, 256, .inr (.inl F))), (ad 7, .inl (G.2 2, 256, .inl T)), (ad 8, .inl (G.2 0, 256, .inl L)), (qc, .inl (G.2 0, n, .inl CH)), (qb, .inl (G.2 1, n, .inr (.inl BE))), (oo, .inl (G.2 1, 1, .inr (.inl (fun _ => (nI tc).toInt64))))]) H := hP
  have hD : va_D A ([(ad 0, .inr (0, [.ref (ad 1), .ref (ad 2), .ref (ad 3), .ref (ad 4), .int (nI dp)])), (ad 2, .inl (G.2 0, 30, .inl C1)), (ad 3, .inl (G.2 0, 30, .inl C2)), (ad 4, .inl (G.2 0, 30, .inl C3)), (ad 1, .inr (1, [.ref (ad 5), .ref (ad 6), .ref (ad 7), .ref (ad 8), .int (nI tc), .ref qc, .ref qb, .int (nI cd), .int rf])), (ad 5, .inl (G.2 1, 256, .inr (.inl V))), (ad 6, .inl (G.2 1, 256, .inr (.inl F))), (ad 7, .inl (G.2 2, 256, .inl T)), (ad 8, .inl (G.2 0, 256, .inl L)), (qc, .inl (G.2 0, n, .inl CH)), (qb, .inl (G.2 1, n, .inr (.inl BE))), (oo, .inl (G.2 1, 1, .inr (.inl (fun _ => (nI tc).toInt64))))]) := hD
  refine lv_goto (tgt := 15) hx hb d_LW_count_9 (by decide) ?_
  refine lv_iconst (v := 0) hx hb d_LW_count_15 (by decide) ?_
  exact sx_iret C0 hr hlk hS ⟨rfl, hP, hD⟩ d_LW_count_16
theorem c_LW_count2 : sx_CtrW l y_LW_count w_LW_count (sx_rm 3 0 0 80) G [.ref (ad 0), .int (nI 2), .ref oo] ((wSC G ad qc qb V F T L tc n CH BE cd rf C1 C2 C3 dp) ++ wO G oo f) (fun _ => True) (sx_is G (some (.int 0)) ((wSC G ad qc qb V F T L tc n CH BE cd rf C1 C2 C3 dp) ++ wO G oo (fun _ => (nI dp).toInt64))) := by
  refine sx_Ctr.ofT (by decide +kernel) (Nat.le_of_ble_eq_true rfl) ?_
  intro p e s m below meth c9 ls A C0 ht hr hlk hl hP hD hA hS hB
  have C0 : sx_C p s m c9 b_LW_count 4 sx_LW G := C0
  have hx := C0.1
  have hb := C0.2.1
  have hl : lv_has ls 4 [(0, .ref (ad 0)), (1, .int (nI 2)), (2, .ref oo)] := hl
  refine lv_aload_n hx hb d_LW_count_0 rfl (lv_at hl 2 rfl) ?_
  refine lv_iconst (v := 0) hx hb d_LW_count_1 (by decide) ?_
  refine lv_aload_n hx hb d_LW_count_2 rfl (lv_at hl 0 rfl) ?_
  refine lv_iload_n hx hb d_LW_count_3 rfl (lv_at hl 1 rfl) ?_
  refine sx_cVP (As := [.int (nI 2)]) (rest := [.int 0, .ref oo]) (wc := (wSC G ad qc qb V F T L tc n CH BE cd rf C1 C2 C3 dp)) (k0 := 0) C0 c_SC_count2 q_LW_39 i_SC_count ⟨Nat.le_of_ble_eq_true rfl, Nat.le_of_ble_eq_true rfl⟩ rfl rfl rfl (sx_mid (wa := []) (wc := (wSC G ad qc qb V F T L tc n CH BE cd rf C1 C2 C3 dp)) (wb := wO G oo f) hP) hl.1 rfl (Nat.le_of_ble_eq_true rfl) d_LW_count_4 ⟨Nat.zero_le _, Nat.zero_le _⟩ ?_
  refine lv_i2l (v := (nI dp).toInt64) hx hb d_LW_count_7 rfl ?_
  refine sx_last (i := 0) C0 hP hD hS 11 rfl rfl (by decide) (by decide) d_LW_count_8 (fun H locs hP hD hS => ?_)
  have hP : va_P G.1 sx_cls ([(ad 0, .inr (0, [.ref (ad 1), .ref (ad 2), .ref (ad 3), .ref (ad 4), .int (nI dp)])), (ad 2, .inl (G.2 0, 30, .inl C1)), (ad 3, .inl (G.2 0, 30, .inl C2)), (ad 4, .inl (G.2 0, 30, .inl C3)), (ad 1, .inr (1, [.ref (ad 5), .ref (ad 6), .ref (ad 7), .ref (ad 8), .int (nI tc), .ref qc, .ref qb, .int (nI cd), .int rf])), (ad 5, .inl (G.2 1, 256, .inr (.inl V))), (ad 6, .inl (G.2 1, 256, .inr (.inl F))), (ad 7, .inl (G.2 2, 256, .inl T)), (ad 8, .inl (G.2 0, 256, .inl L)), (qc, .inl (G.2 0, n, .inl CH)), (qb, .inl (G.2 1, n, .inr (.inl BE))), (oo, .inl (G.2 1, 1, .inr (.inl (vp_updL f 0 ((nI dp).toInt64)))))]) H := hP
  have hD : va_D A ([(ad 0, .inr (0, [.ref (ad 1), .ref (ad 2), .ref (ad 3), .ref (ad 4), .int (nI dp)])), (ad 2, .inl (G.2 0, 30, .inl C1)), (ad 3, .inl (G.2 0, 30, .inl C2)), (ad 4, .inl (G.2 0, 30, .inl C3)), (ad 1, .inr (1, [.ref (ad 5), .ref (ad 6), .ref (ad 7), .ref (ad 8), .int (nI tc), .ref qc, .ref qb, .int (nI cd), .int rf])), (ad 5, .inl (G.2 1, 256, .inr (.inl V))), (ad 6, .inl (G.2 1, 256, .inr (.inl F))), (ad 7, .inl (G.2 2, 256, .inl T)), (ad 8, .inl (G.2 0, 256, .inl L)), (qc, .inl (G.2 0, n, .inl CH)), (qb, .inl (G.2 1, n, .inr (.inl BE))), (oo, .inl (G.2 1, 1, .inr (.inl (vp_updL f 0 ((nI dp).toInt64)))))]) := hD
  have hP := sx_extA (k := 11) (e1 := (G.2 1, 1, .inr (.inl (fun _ => (nI dp).toInt64)))) hP rfl (sx_cellL (fun j hj => by rw [show j = 0 by omega]; exact pk_uLs))
  have hD := va_D.set (p := 11) (e := .inl (G.2 1, 1, .inr (.inl (fun _ => (nI dp).toInt64)))) hD rfl
  have hP : va_P G.1 sx_cls ([(ad 0, .inr (0, [.ref (ad 1), .ref (ad 2), .ref (ad 3), .ref (ad 4), .int (nI dp)])), (ad 2, .inl (G.2 0, 30, .inl C1)), (ad 3, .inl (G.2 0, 30, .inl C2)), (ad 4, .inl (G.2 0, 30, .inl C3)), (ad 1, .inr (1, [.ref (ad 5), .ref (ad 6), .ref (ad 7), .ref (ad 8), .int (nI tc), .ref qc, .ref qb, .int (nI cd), .int rf])), (ad 5, .inl (G.2 1, 256, .inr (.inl V))), (ad 6, .inl (G.2 1, 256, .inr (.inl F))), (ad 7, .inl (G.2 2, 256, .inl T)), (ad 8, .inl (G.2 0, 256, .inl L)), (qc, .inl (G.2 0, n, .inl CH)), (qb, .inl (G.2 1, n, .inr (.inl BE))), (oo, .inl (G.2 1, 1, .inr (.inl (fun _ => (nI dp).toInt64))))]) H := hP
  have hD : va_D A ([(ad 0, .inr (0, [.ref (ad 1), .ref (ad 2), .ref (ad 3), .ref (ad 4), .int (nI dp)])), (ad 2, .inl (G.2 0, 30, .inl C1)), (ad 3, .inl (G.2 0, 30, .inl C2)), (ad 4, .inl (G.2 0, 30, .inl C3)), (ad 1, .inr (1, [.ref (ad 5), .ref (ad 6), .ref (ad 7), .ref (ad 8), .int (nI tc), .ref qc, .ref qb, .int (nI cd), .int rf])), (ad 5, .inl (G.2 1, 256, .inr (.inl V))), (ad 6, .inl (G.2 1, 256, .inr (.inl F))), (ad 7, .inl (G.2 2, 256, .inl T)), (ad 8, .inl (G.2 0, 256, .inl L)), (qc, .inl (G.2 0, n, .inl CH)), (qb, .inl (G.2 1, n, .inr (.inl BE))), (oo, .inl (G.2 1, 1, .inr (.inl (fun _ => (nI dp).toInt64))))]) := hD
  refine lv_goto (tgt := 15) hx hb d_LW_count_9 (by decide) ?_
  refine lv_iconst (v := 0) hx hb d_LW_count_15 (by decide) ?_
  exact sx_iret C0 hr hlk hS ⟨rfl, hP, hD⟩ d_LW_count_16
theorem c_LW_count3 : sx_CtrW l y_LW_count w_LW_count (sx_rm 3 0 0 80) G [.ref (ad 0), .int (nI 3), .ref oo] ((wSC G ad qc qb V F T L tc n CH BE cd rf C1 C2 C3 dp) ++ wO G oo f) (fun _ => True) (sx_is G (some (.int 0)) ((wSC G ad qc qb V F T L tc n CH BE cd rf C1 C2 C3 dp) ++ wO G oo (fun _ => (nI (p_cnL V 256)).toInt64))) := by
  refine sx_Ctr.ofT (by decide +kernel) (Nat.le_of_ble_eq_true rfl) ?_
  intro p e s m below meth c9 ls A C0 ht hr hlk hl hP hD hA hS hB
  have C0 : sx_C p s m c9 b_LW_count 4 sx_LW G := C0
  have hx := C0.1
  have hb := C0.2.1
  have hl : lv_has ls 4 [(0, .ref (ad 0)), (1, .int (nI 3)), (2, .ref oo)] := hl
  refine lv_aload_n hx hb d_LW_count_0 rfl (lv_at hl 2 rfl) ?_
  refine lv_iconst (v := 0) hx hb d_LW_count_1 (by decide) ?_
  refine lv_aload_n hx hb d_LW_count_2 rfl (lv_at hl 0 rfl) ?_
  refine lv_iload_n hx hb d_LW_count_3 rfl (lv_at hl 1 rfl) ?_
  refine sx_cVP (As := [.int (nI 3)]) (rest := [.int 0, .ref oo]) (wc := (wSC G ad qc qb V F T L tc n CH BE cd rf C1 C2 C3 dp)) (k0 := 0) C0 c_SC_count3 q_LW_39 i_SC_count ⟨Nat.le_of_ble_eq_true rfl, Nat.le_of_ble_eq_true rfl⟩ rfl rfl rfl (sx_mid (wa := []) (wc := (wSC G ad qc qb V F T L tc n CH BE cd rf C1 C2 C3 dp)) (wb := wO G oo f) hP) hl.1 rfl (Nat.le_of_ble_eq_true rfl) d_LW_count_4 ⟨Nat.zero_le _, Nat.zero_le _⟩ ?_
  refine lv_i2l (v := (nI (p_cnL V 256)).toInt64) hx hb d_LW_count_7 rfl ?_
  refine sx_last (i := 0) C0 hP hD hS 11 rfl rfl (by decide) (by decide) d_LW_count_8 (fun H locs hP hD hS => ?_)
  have hP : va_P G.1 sx_cls ([(ad 0, .inr (0, [.ref (ad 1), .ref (ad 2), .ref (ad 3), .ref (ad 4), .int (nI dp)])), (ad 2, .inl (G.2 0, 30, .inl C1)), (ad 3, .inl (G.2 0, 30, .inl C2)), (ad 4, .inl (G.2 0, 30, .inl C3)), (ad 1, .inr (1, [.ref (ad 5), .ref (ad 6), .ref (ad 7), .ref (ad 8), .int (nI tc), .ref qc, .ref qb, .int (nI cd), .int rf])), (ad 5, .inl (G.2 1, 256, .inr (.inl V))), (ad 6, .inl (G.2 1, 256, .inr (.inl F))), (ad 7, .inl (G.2 2, 256, .inl T)), (ad 8, .inl (G.2 0, 256, .inl L)), (qc, .inl (G.2 0, n, .inl CH)), (qb, .inl (G.2 1, n, .inr (.inl BE))), (oo, .inl (G.2 1, 1, .inr (.inl (vp_updL f 0 ((nI (p_cnL V 256)).toInt64)))))]) H := hP
  have hD : va_D A ([(ad 0, .inr (0, [.ref (ad 1), .ref (ad 2), .ref (ad 3), .ref (ad 4), .int (nI dp)])), (ad 2, .inl (G.2 0, 30, .inl C1)), (ad 3, .inl (G.2 0, 30, .inl C2)), (ad 4, .inl (G.2 0, 30, .inl C3)), (ad 1, .inr (1, [.ref (ad 5), .ref (ad 6), .ref (ad 7), .ref (ad 8), .int (nI tc), .ref qc, .ref qb, .int (nI cd), .int rf])), (ad 5, .inl (G.2 1, 256, .inr (.inl V))), (ad 6, .inl (G.2 1, 256, .inr (.inl F))), (ad 7, .inl (G.2 2, 256, .inl T)), (ad 8, .inl (G.2 0, 256, .inl L)), (qc, .inl (G.2 0, n, .inl CH)), (qb, .inl (G.2 1, n, .inr (.inl BE))), (oo, .inl (G.2 1, 1, .inr (.inl (vp_updL f 0 ((nI (p_cnL V 256)).toInt64)))))]) := hD
  have hP := sx_extA (k := 11) (e1 := (G.2 1, 1, .inr (.inl (fun _ => (nI (p_cnL V 256)).toInt64)))) hP rfl (sx_cellL (fun j hj => by rw [show j = 0 by omega]; exact pk_uLs))
  have hD := va_D.set (p := 11) (e := .inl (G.2 1, 1, .inr (.inl (fun _ => (nI (p_cnL V 256)).toInt64)))) hD rfl
  have hP : va_P G.1 sx_cls ([(ad 0, .inr (0, [.ref (ad 1), .ref (ad 2), .ref (ad 3), .ref (ad 4), .int (nI dp)])), (ad 2, .inl (G.2 0, 30, .inl C1)), (ad 3, .inl (G.2 0, 30, .inl C2)), (ad 4, .inl (G.2 0, 30, .inl C3)), (ad 1, .inr (1, [.ref (ad 5), .ref (ad 6), .ref (ad 7), .ref (ad 8), .int (nI tc), .ref qc, .ref qb, .int (nI cd), .int rf])), (ad 5, .inl (G.2 1, 256, .inr (.inl V))), (ad 6, .inl (G.2 1, 256, .inr (.inl F))), (ad 7, .inl (G.2 2, 256, .inl T)), (ad 8, .inl (G.2 0, 256, .inl L)), (qc, .inl (G.2 0, n, .inl CH)), (qb, .inl (G.2 1, n, .inr (.inl BE))), (oo, .inl (G.2 1, 1, .inr (.inl (fun _ => (nI (p_cnL V 256)).toInt64))))]) H := hP
  have hD : va_D A ([(ad 0, .inr (0, [.ref (ad 1), .ref (ad 2), .ref (ad 3), .ref (ad 4), .int (nI dp)])), (ad 2, .inl (G.2 0, 30, .inl C1)), (ad 3, .inl (G.2 0, 30, .inl C2)), (ad 4, .inl (G.2 0, 30, .inl C3)), (ad 1, .inr (1, [.ref (ad 5), .ref (ad 6), .ref (ad 7), .ref (ad 8), .int (nI tc), .ref qc, .ref qb, .int (nI cd), .int rf])), (ad 5, .inl (G.2 1, 256, .inr (.inl V))), (ad 6, .inl (G.2 1, 256, .inr (.inl F))), (ad 7, .inl (G.2 2, 256, .inl T)), (ad 8, .inl (G.2 0, 256, .inl L)), (qc, .inl (G.2 0, n, .inl CH)), (qb, .inl (G.2 1, n, .inr (.inl BE))), (oo, .inl (G.2 1, 1, .inr (.inl (fun _ => (nI (p_cnL V 256)).toInt64))))]) := hD
  refine lv_goto (tgt := 15) hx hb d_LW_count_9 (by decide) ?_
  refine lv_iconst (v := 0) hx hb d_LW_count_15 (by decide) ?_
  exact sx_iret C0 hr hlk hS ⟨rfl, hP, hD⟩ d_LW_count_16
theorem x_LW_count {w1 : Int32} (hfl : l.flags = flags0) (ho : w1 < 0 ∨ 3 < w1) : sx_CtrW l y_LW_count w_LW_count (sx_rm 8 1 6 140) G [.ref (ad 0), .int w1, .ref oo] ((wSC G ad qc qb V F T L tc n CH BE cd rf C1 C2 C3 dp) ++ wO G oo f) sx_TS (sx_is G (some (.int 1)) ((wSC G ad qc qb V F T L tc n CH BE cd rf C1 C2 C3 dp) ++ wO G oo f)) := by
  refine sx_Ctr.ofT (by decide +kernel) (Nat.le_of_ble_eq_true rfl) ?_
  intro p e s m below meth c9 ls A C0 ht hr hlk hl hP hD hA hS hB
  have C0 : sx_C p s m c9 b_LW_count 4 sx_LW G := C0
  have hx := C0.1
  have hb := C0.2.1
  have hl : lv_has ls 4 [(0, .ref (ad 0)), (1, .int w1), (2, .ref oo)] := hl
  refine lv_aload_n hx hb d_LW_count_0 rfl (lv_at hl 2 rfl) ?_
  refine lv_iconst (v := 0) hx hb d_LW_count_1 (by decide) ?_
  refine lv_aload_n hx hb d_LW_count_2 rfl (lv_at hl 0 rfl) ?_
  refine lv_iload_n hx hb d_LW_count_3 rfl (lv_at hl 1 rfl) ?_
  refine sx_cVX (As := [.int w1]) (rest := [.int 0, .ref oo]) (wc := (wSC G ad qc qb V F T L tc n CH BE cd rf C1 C2 C3 dp)) (k0 := 0) C0 hB ⟨Nat.le_refl _, fun _ _ => rfl⟩ (x_SC_count hfl ho) q_LW_39 i_SC_count ⟨Nat.le_of_ble_eq_true rfl, Nat.le_of_ble_eq_true rfl⟩ rfl rfl rfl (sx_mid (wa := []) (wc := (wSC G ad qc qb V F T L tc n CH BE cd rf C1 C2 C3 dp)) (wb := wO G oo f) hP) hl.1 rfl (Nat.le_of_ble_eq_true rfl) d_LW_count_4 ⟨Nat.le_of_ble_eq_true rfl, Nat.le_of_ble_eq_true rfl⟩ (fun x ce H1 h1 h2 h3 h4 h5 h6 => ?_)
  refine sx_TW.caught C0 ht ⟨by decide, by decide⟩ (by decide) sx_clL_IAE sx_cast_IAE h2 h3 h4 ?_
  have hP := sx_growP hP h6
  have hS := sx_growS hS h5 h6
  refine lv_astore_n hx hb d_LW_count_12 rfl hl (by decide) rfl (fun ls hl => ?_)
  have hl : lv_has ls 4 [(3, .ref x), (0, .ref (ad 0)), (1, .int w1), (2, .ref oo)] := hl
  refine lv_iconst (v := 1) hx hb d_LW_count_13 (by decide) ?_
  exact sx_iret C0 hr hlk hS ⟨rfl, hP, hD⟩ d_LW_count_14
theorem c_LW_store {a b : Nat} {v : Int64} {g : Int32} (ha : a < 4) (hb1 : b < 64) (htc : T (64 * a + b) = 0 → tc < 256) (hcn : cd ≤ n) (hn0 : 0 < n) (hn : n ≤ 4096) (hg1 : ¬ g ≤ 2300) (hg2 : (p_cost (T (64 * a + b)) (F (64 * a + b)) (V (64 * a + b)) v) ≤ g) : sx_CtrW l y_LW_store w_LW_store (sx_rm 3 2 (4 * n) 80) G [.ref (ad 0), .int (nI a), .int (nI b), .long v, .int g, .ref oo] ((wSC G ad qc qb V F T L tc n CH BE cd rf C1 C2 C3 dp) ++ wO G oo f) (fun _ => True) (fun r A H => ∃ (qc' qb' n' cd' tc' : Nat) (V' : Nat → Int64) (T' L' CH' : Nat → Int32) (BE' : Nat → Int64) (rf' : Int32), r = some (.int 0) ∧ p_tch T L tc (64 * a + b) T' L' tc' ∧ p_sto V F n CH BE cd rf (64 * a + b) v V' n' CH' BE' cd' rf' ∧ va_P G.1 sx_cls (wSC G ad qc' qb' V' F T' L' tc' n' CH' BE' cd' rf' C1 C2 C3 dp ++ wO G oo (fun _ => (p_cost (T (64 * a + b)) (F (64 * a + b)) (V (64 * a + b)) v).toInt64)) H ∧ va_D A (wSC G ad qc' qb' V' F T' L' tc' n' CH' BE' cd' rf' C1 C2 C3 dp ++ wO G oo (fun _ => (p_cost (T (64 * a + b)) (F (64 * a + b)) (V (64 * a + b)) v).toInt64))) := by
  refine sx_Ctr.ofT (by decide +kernel) (Nat.le_of_ble_eq_true rfl) ?_
  intro p e s m below meth c9 ls A C0 ht hr hlk hl hP hD hA hS hB
  have C0 : sx_C p s m c9 b_LW_store 8 sx_LW G := C0
  have hx := C0.1
  have hb := C0.2.1
  have hl : lv_has ls 8 [(0, .ref (ad 0)), (1, .int (nI a)), (2, .int (nI b)), (3, .long v), (5, .int g), (6, .ref oo)] := hl
  refine lv_aload hx hb d_LW_store_0 (lv_at hl 5 rfl) ?_
  refine lv_iconst (v := 0) hx hb d_LW_store_2 (by decide) ?_
  refine lv_aload_n hx hb d_LW_store_3 rfl (lv_at hl 0 rfl) ?_
  refine lv_iload_n hx hb d_LW_store_4 rfl (lv_at hl 1 rfl) ?_
  refine lv_iload_n hx hb d_LW_store_5 rfl (lv_at hl 2 rfl) ?_
  refine lv_lload_n hx hb d_LW_store_6 rfl (lv_at hl 3 rfl) ?_
  refine lv_iload hx hb d_LW_store_7 (lv_at hl 4 rfl) ?_
  refine sx_cV (As := [.int (nI a), .int (nI b), .long v, .int g]) (rest := [.int 0, .ref oo]) (wa := []) (wb := wO G oo f) (k0 := 0) C0 (c_SC_store ha hb1 htc hcn hn0 hn hg1 hg2) q_LW_27 i_SC_store ⟨Nat.le_of_ble_eq_true rfl, Nat.le_of_ble_eq_true rfl⟩ rfl rfl rfl hP hD hS hA hl.1 rfl (Nat.le_of_ble_eq_true rfl) d_LW_store_9 ⟨(show 0 + 2 ≤ 2 by omega), (show 0 + 4 * n ≤ 4 * n by omega)⟩ (fun r H locs hq hj hS => ?_)
  obtain ⟨qc', qb', n', cd', tc', V', T', L', CH', BE', rf', rfl, htch, hsto, hP1, hD1⟩ := hq
  obtain ⟨hP, hD⟩ := hj _ hP1 hD1
  have hP : va_P G.1 sx_cls ([(ad 0, .inr (0, [.ref (ad 1), .ref (ad 2), .ref (ad 3), .ref (ad 4), .int (nI dp)])), (ad 2, .inl (G.2 0, 30, .inl C1)), (ad 3, .inl (G.2 0, 30, .inl C2)), (ad 4, .inl (G.2 0, 30, .inl C3)), (ad 1, .inr (1, [.ref (ad 5), .ref (ad 6), .ref (ad 7), .ref (ad 8), .int (nI tc'), .ref qc', .ref qb', .int (nI cd'), .int rf'])), (ad 5, .inl (G.2 1, 256, .inr (.inl V'))), (ad 6, .inl (G.2 1, 256, .inr (.inl F))), (ad 7, .inl (G.2 2, 256, .inl T')), (ad 8, .inl (G.2 0, 256, .inl L')), (qc', .inl (G.2 0, n', .inl CH')), (qb', .inl (G.2 1, n', .inr (.inl BE'))), (oo, .inl (G.2 1, 1, .inr (.inl f)))]) H := hP
  have hD : va_D A ([(ad 0, .inr (0, [.ref (ad 1), .ref (ad 2), .ref (ad 3), .ref (ad 4), .int (nI dp)])), (ad 2, .inl (G.2 0, 30, .inl C1)), (ad 3, .inl (G.2 0, 30, .inl C2)), (ad 4, .inl (G.2 0, 30, .inl C3)), (ad 1, .inr (1, [.ref (ad 5), .ref (ad 6), .ref (ad 7), .ref (ad 8), .int (nI tc'), .ref qc', .ref qb', .int (nI cd'), .int rf'])), (ad 5, .inl (G.2 1, 256, .inr (.inl V'))), (ad 6, .inl (G.2 1, 256, .inr (.inl F))), (ad 7, .inl (G.2 2, 256, .inl T')), (ad 8, .inl (G.2 0, 256, .inl L')), (qc', .inl (G.2 0, n', .inl CH')), (qb', .inl (G.2 1, n', .inr (.inl BE'))), (oo, .inl (G.2 1, 1, .inr (.inl f)))]) := hD
  refine W.widen (k := 2) (n := 4 * n) (show 0 + 2 ≤ 2 by omega) (show 0 + 4 * n ≤ 4 * n by omega) ?_
  refine lv_i2l (v := (p_cost (T (64 * a + b)) (F (64 * a + b)) (V (64 * a + b)) v).toInt64) hx hb d_LW_store_12 rfl ?_
  refine sx_last (i := 0) C0 hP hD hS 11 rfl rfl (by decide) (by decide) d_LW_store_13 (fun H locs hP hD hS => ?_)
  have hP : va_P G.1 sx_cls ([(ad 0, .inr (0, [.ref (ad 1), .ref (ad 2), .ref (ad 3), .ref (ad 4), .int (nI dp)])), (ad 2, .inl (G.2 0, 30, .inl C1)), (ad 3, .inl (G.2 0, 30, .inl C2)), (ad 4, .inl (G.2 0, 30, .inl C3)), (ad 1, .inr (1, [.ref (ad 5), .ref (ad 6), .ref (ad 7), .ref (ad 8), .int (nI tc'), .ref qc', .ref qb', .int (nI cd'), .int rf'])), (ad 5, .inl (G.2 1, 256, .inr (.inl V'))), (ad 6, .inl (G.2 1, 256, .inr (.inl F))), (ad 7, .inl (G.2 2, 256, .inl T')), (ad 8, .inl (G.2 0, 256, .inl L')), (qc', .inl (G.2 0, n', .inl CH')), (qb', .inl (G.2 1, n', .inr (.inl BE'))), (oo, .inl (G.2 1, 1, .inr (.inl (vp_updL f 0 ((p_cost (T (64 * a + b)) (F (64 * a + b)) (V (64 * a + b)) v).toInt64)))))]) H := hP
  have hD : va_D A ([(ad 0, .inr (0, [.ref (ad 1), .ref (ad 2), .ref (ad 3), .ref (ad 4), .int (nI dp)])), (ad 2, .inl (G.2 0, 30, .inl C1)), (ad 3, .inl (G.2 0, 30, .inl C2)), (ad 4, .inl (G.2 0, 30, .inl C3)), (ad 1, .inr (1, [.ref (ad 5), .ref (ad 6), .ref (ad 7), .ref (ad 8), .int (nI tc'), .ref qc', .ref qb', .int (nI cd'), .int rf'])), (ad 5, .inl (G.2 1, 256, .inr (.inl V'))), (ad 6, .inl (G.2 1, 256, .inr (.inl F))), (ad 7, .inl (G.2 2, 256, .inl T')), (ad 8, .inl (G.2 0, 256, .inl L')), (qc', .inl (G.2 0, n', .inl CH')), (qb', .inl (G.2 1, n', .inr (.inl BE'))), (oo, .inl (G.2 1, 1, .inr (.inl (vp_updL f 0 ((p_cost (T (64 * a + b)) (F (64 * a + b)) (V (64 * a + b)) v).toInt64)))))]) := hD
  have hP := sx_extA (k := 11) (e1 := (G.2 1, 1, .inr (.inl (fun _ => (p_cost (T (64 * a + b)) (F (64 * a + b)) (V (64 * a + b)) v).toInt64)))) hP rfl (sx_cellL (fun j hj => by rw [show j = 0 by omega]; exact pk_uLs))
  have hD := va_D.set (p := 11) (e := .inl (G.2 1, 1, .inr (.inl (fun _ => (p_cost (T (64 * a + b)) (F (64 * a + b)) (V (64 * a + b)) v).toInt64)))) hD rfl
  have hP : va_P G.1 sx_cls ([(ad 0, .inr (0, [.ref (ad 1), .ref (ad 2), .ref (ad 3), .ref (ad 4), .int (nI dp)])), (ad 2, .inl (G.2 0, 30, .inl C1)), (ad 3, .inl (G.2 0, 30, .inl C2)), (ad 4, .inl (G.2 0, 30, .inl C3)), (ad 1, .inr (1, [.ref (ad 5), .ref (ad 6), .ref (ad 7), .ref (ad 8), .int (nI tc'), .ref qc', .ref qb', .int (nI cd'), .int rf'])), (ad 5, .inl (G.2 1, 256, .inr (.inl V'))), (ad 6, .inl (G.2 1, 256, .inr (.inl F))), (ad 7, .inl (G.2 2, 256, .inl T')), (ad 8, .inl (G.2 0, 256, .inl L')), (qc', .inl (G.2 0, n', .inl CH')), (qb', .inl (G.2 1, n', .inr (.inl BE'))), (oo, .inl (G.2 1, 1, .inr (.inl (fun _ => (p_cost (T (64 * a + b)) (F (64 * a + b)) (V (64 * a + b)) v).toInt64))))]) H := hP
  have hD : va_D A ([(ad 0, .inr (0, [.ref (ad 1), .ref (ad 2), .ref (ad 3), .ref (ad 4), .int (nI dp)])), (ad 2, .inl (G.2 0, 30, .inl C1)), (ad 3, .inl (G.2 0, 30, .inl C2)), (ad 4, .inl (G.2 0, 30, .inl C3)), (ad 1, .inr (1, [.ref (ad 5), .ref (ad 6), .ref (ad 7), .ref (ad 8), .int (nI tc'), .ref qc', .ref qb', .int (nI cd'), .int rf'])), (ad 5, .inl (G.2 1, 256, .inr (.inl V'))), (ad 6, .inl (G.2 1, 256, .inr (.inl F))), (ad 7, .inl (G.2 2, 256, .inl T')), (ad 8, .inl (G.2 0, 256, .inl L')), (qc', .inl (G.2 0, n', .inl CH')), (qb', .inl (G.2 1, n', .inr (.inl BE'))), (oo, .inl (G.2 1, 1, .inr (.inl (fun _ => (p_cost (T (64 * a + b)) (F (64 * a + b)) (V (64 * a + b)) v).toInt64))))]) := hD
  refine lv_goto (tgt := 25) hx hb d_LW_store_14 (by decide) ?_
  refine lv_iconst (v := 0) hx hb d_LW_store_25 (by decide) ?_
  exact sx_iret C0 hr hlk hS ⟨_, _, _, _, _, _, _, _, _, _, _, rfl, htch, hsto, hP, hD⟩ d_LW_store_26
theorem x_LW_store1 {o1 p1 g : Int32} {v : Int64} (hfl : l.flags = flags0) (ho : p_out o1 p1) : sx_CtrW l y_LW_store w_LW_store (sx_rm 8 1 6 140) G [.ref (ad 0), .int o1, .int p1, .long v, .int g, .ref oo] ((wSC G ad qc qb V F T L tc n CH BE cd rf C1 C2 C3 dp) ++ wO G oo f) sx_TS (sx_is G (some (.int 1)) ((wSC G ad qc qb V F T L tc n CH BE cd rf C1 C2 C3 dp) ++ wO G oo f)) := by
  refine sx_Ctr.ofT (by decide +kernel) (Nat.le_of_ble_eq_true rfl) ?_
  intro p e s m below meth c9 ls A C0 ht hr hlk hl hP hD hA hS hB
  have C0 : sx_C p s m c9 b_LW_store 8 sx_LW G := C0
  have hx := C0.1
  have hb := C0.2.1
  have hl : lv_has ls 8 [(0, .ref (ad 0)), (1, .int o1), (2, .int p1), (3, .long v), (5, .int g), (6, .ref oo)] := hl
  refine lv_aload hx hb d_LW_store_0 (lv_at hl 5 rfl) ?_
  refine lv_iconst (v := 0) hx hb d_LW_store_2 (by decide) ?_
  refine lv_aload_n hx hb d_LW_store_3 rfl (lv_at hl 0 rfl) ?_
  refine lv_iload_n hx hb d_LW_store_4 rfl (lv_at hl 1 rfl) ?_
  refine lv_iload_n hx hb d_LW_store_5 rfl (lv_at hl 2 rfl) ?_
  refine lv_lload_n hx hb d_LW_store_6 rfl (lv_at hl 3 rfl) ?_
  refine lv_iload hx hb d_LW_store_7 (lv_at hl 4 rfl) ?_
  refine sx_cVX (As := [.int o1, .int p1, .long v, .int g]) (rest := [.int 0, .ref oo]) (wc := (wSC G ad qc qb V F T L tc n CH BE cd rf C1 C2 C3 dp)) (k0 := 0) C0 hB ⟨Nat.le_refl _, fun _ _ => rfl⟩ (x_SC_store1 hfl ho) q_LW_27 i_SC_store ⟨Nat.le_of_ble_eq_true rfl, Nat.le_of_ble_eq_true rfl⟩ rfl rfl rfl (sx_mid (wa := []) (wc := (wSC G ad qc qb V F T L tc n CH BE cd rf C1 C2 C3 dp)) (wb := wO G oo f) hP) hl.1 rfl (Nat.le_of_ble_eq_true rfl) d_LW_store_9 ⟨Nat.le_of_ble_eq_true rfl, Nat.le_of_ble_eq_true rfl⟩ (fun x ce H1 h1 h2 h3 h4 h5 h6 => ?_)
  refine sx_TW.caught C0 ht ⟨by decide, by decide⟩ (by decide) sx_clL_IAE sx_cast_IAE h2 h3 h4 ?_
  have hP := sx_growP hP h6
  have hS := sx_growS hS h5 h6
  refine lv_astore hx hb d_LW_store_17 hl (by decide) rfl (fun ls hl => ?_)
  have hl : lv_has ls 8 [(7, .ref x), (0, .ref (ad 0)), (1, .int o1), (2, .int p1), (3, .long v), (5, .int g), (6, .ref oo)] := hl
  refine lv_iconst (v := 1) hx hb d_LW_store_19 (by decide) ?_
  exact sx_iret C0 hr hlk hS ⟨rfl, hP, hD⟩ d_LW_store_20
theorem x_LW_store2 {a b : Nat} {v : Int64} {g : Int32} (hfl : l.flags = flags0) (ha : a < 4) (hb1 : b < 64) (hg : g ≤ 2300 ∨ ¬ (p_cost (T (64 * a + b)) (F (64 * a + b)) (V (64 * a + b)) v) ≤ g) : sx_CtrW l y_LW_store w_LW_store (sx_rm 8 1 6 140) G [.ref (ad 0), .int (nI a), .int (nI b), .long v, .int g, .ref oo] ((wSC G ad qc qb V F T L tc n CH BE cd rf C1 C2 C3 dp) ++ wO G oo f) sx_TS (sx_is G (some (.int 2)) ((wSC G ad qc qb V F T L tc n CH BE cd rf C1 C2 C3 dp) ++ wO G oo f)) := by
  refine sx_Ctr.ofT (by decide +kernel) (Nat.le_of_ble_eq_true rfl) ?_
  intro p e s m below meth c9 ls A C0 ht hr hlk hl hP hD hA hS hB
  have C0 : sx_C p s m c9 b_LW_store 8 sx_LW G := C0
  have hx := C0.1
  have hb := C0.2.1
  have hl : lv_has ls 8 [(0, .ref (ad 0)), (1, .int (nI a)), (2, .int (nI b)), (3, .long v), (5, .int g), (6, .ref oo)] := hl
  refine lv_aload hx hb d_LW_store_0 (lv_at hl 5 rfl) ?_
  refine lv_iconst (v := 0) hx hb d_LW_store_2 (by decide) ?_
  refine lv_aload_n hx hb d_LW_store_3 rfl (lv_at hl 0 rfl) ?_
  refine lv_iload_n hx hb d_LW_store_4 rfl (lv_at hl 1 rfl) ?_
  refine lv_iload_n hx hb d_LW_store_5 rfl (lv_at hl 2 rfl) ?_
  refine lv_lload_n hx hb d_LW_store_6 rfl (lv_at hl 3 rfl) ?_
  refine lv_iload hx hb d_LW_store_7 (lv_at hl 4 rfl) ?_
  refine sx_cVX (As := [.int (nI a), .int (nI b), .long v, .int g]) (rest := [.int 0, .ref oo]) (wc := (wSC G ad qc qb V F T L tc n CH BE cd rf C1 C2 C3 dp)) (k0 := 0) C0 hB ⟨Nat.le_refl _, fun _ _ => rfl⟩ (x_SC_store2 hfl ha hb1 hg) q_LW_27 i_SC_store ⟨Nat.le_of_ble_eq_true rfl, Nat.le_of_ble_eq_true rfl⟩ rfl rfl rfl (sx_mid (wa := []) (wc := (wSC G ad qc qb V F T L tc n CH BE cd rf C1 C2 C3 dp)) (wb := wO G oo f) hP) hl.1 rfl (Nat.le_of_ble_eq_true rfl) d_LW_store_9 ⟨Nat.le_of_ble_eq_true rfl, Nat.le_of_ble_eq_true rfl⟩ (fun x ce H1 h1 h2 h3 h4 h5 h6 => ?_)
  refine sx_TW.caught2 C0 ht ⟨by decide, by decide⟩ (by decide) ⟨by decide, by decide⟩ (by decide) C0.2.2.2.2.2.2.2 sx_clL_IAE sx_clL_ISE sx_cast_ISE h2 h3 h4 ?_
  have hP := sx_growP hP h6
  have hS := sx_growS hS h5 h6
  refine lv_astore hx hb d_LW_store_21 hl (by decide) rfl (fun ls hl => ?_)
  have hl : lv_has ls 8 [(7, .ref x), (0, .ref (ad 0)), (1, .int (nI a)), (2, .int (nI b)), (3, .long v), (5, .int g), (6, .ref oo)] := hl
  refine lv_iconst (v := 2) hx hb d_LW_store_23 (by decide) ?_
  exact sx_iret C0 hr hlk hS ⟨rfl, hP, hD⟩ d_LW_store_24
end SL1
end
section
/-! THE PLAIN LAW: the undo log against the kept copies -/
def p_tl (L : Nat → Int32) : Nat → (Nat → Int32) → Prop
  | 0, T => T = fun _ => 0
  | k + 1, T => ∃ (x : Nat) (T0 : Nat → Int32), x < 256 ∧ L k = nI x ∧ T0 x = 0 ∧ T = upd T0 x 1 ∧ p_tl L k T0
theorem p_upd_back {T0 : Nat → Int32} {x : Nat} (h : T0 x = 0) : upd (upd T0 x 1) x 0 = T0 := by
  funext j
  unfold upd
  by_cases e : j = x
  · subst e; rw [if_pos rfl, h]
  · rw [if_neg e, if_neg e]
theorem p_tl_congr {L L' : Nat → Int32} {k : Nat} : ∀ {T : Nat → Int32}, (∀ i, i < k → L' i = L i) → p_tl L k T → p_tl L' k T := by
  induction k with
  | zero => intro T _ h; exact h
  | succ k ih =>
    intro T hL h
    obtain ⟨x, T0, h1, h2, h3, h4, h5⟩ := h
    exact ⟨x, T0, h1, by rw [hL k (Nat.lt_succ_self k)]; exact h2, h3, h4, ih (fun i hi => hL i (by omega)) h5⟩
theorem p_tl_push {L T : Nat → Int32} {k x : Nat} (h : p_tl L k T) (hx : x < 256) (h0 : T x = 0) : p_tl (upd L k (nI x)) (k + 1) (upd T x 1) :=
  ⟨x, T, hx, pk_us, h0, rfl, p_tl_congr (fun i hi => pk_un (Nat.ne_of_lt hi)) h⟩
theorem p_tl_bool {L : Nat → Int32} {k : Nat} : ∀ {T : Nat → Int32}, p_tl L k T → ∀ j, T j = 0 ∨ T j = 1 := by
  induction k with
  | zero => intro T h j; left; rw [h]
  | succ k ih =>
    intro T h j
    obtain ⟨x, T0, -, -, -, rfl, h5⟩ := h
    by_cases e : j = x
    · subst e; right; exact pk_us
    · rw [pk_un e]; exact ih h5 j
theorem p_tl_ix {L : Nat → Int32} {k : Nat} : ∀ {T : Nat → Int32}, p_tl L k T → p_ix L k := by
  induction k with
  | zero => intro T _ i hi; exact absurd hi (Nat.not_lt_zero i)
  | succ k ih =>
    intro T h i hi
    obtain ⟨x, T0, h1, h2, -, -, h5⟩ := h
    by_cases e : i = k
    · subst e; exact ⟨x, h1, h2⟩
    · exact ih h5 i (by omega)
theorem p_unt_ge {L : Nat → Int32} {lo n : Nat} {T : Nat → Int32} (h : lo ≤ n) : p_unt L lo (n + 1) T = p_unt L lo n (upd T (L n).toNatClampNeg 0) := by
  show (if lo ≤ n then _ else _) = _
  rw [if_pos h]
theorem p_und_ge {CH : Nat → Int32} {BE : Nat → Int64} {lo n : Nat} {V : Nat → Int64} (h : lo ≤ n) : p_und CH BE lo (n + 1) V = p_und CH BE lo n (vp_updL V (CH n).toNatClampNeg (BE n)) := by
  show (if lo ≤ n then _ else _) = _
  rw [if_pos h]
theorem p_tl_undo {L : Nat → Int32} {lo k : Nat} : ∀ {T : Nat → Int32}, lo ≤ k → p_tl L k T → p_tl L lo (p_unt L lo k T) := by
  induction k with
  | zero =>
    intro T hlo h
    have : lo = 0 := by omega
    subst this
    exact h
  | succ k ih =>
    intro T hlo h
    by_cases e : lo = k + 1
    · subst e; rw [p_unt_0]; exact h
    · obtain ⟨x, T0, h1, h2, h3, rfl, h5⟩ := h
      rw [p_unt_ge (by omega), h2, nI_clamp (by omega), p_upd_back h3]
      exact ih (by omega) h5
theorem p_tl_none {L T : Nat → Int32} {k : Nat} (h : p_tl L k T) : p_unt L 0 k T = fun _ => 0 := p_tl_undo (Nat.zero_le k) h
theorem p_cnT_le (T : Nat → Int32) (i : Nat) : p_cnT T i ≤ i := by
  induction i with
  | zero => exact Nat.le_refl _
  | succ i ih =>
    show p_cnT T i + _ ≤ i + 1
    split <;> omega
theorem p_cnT_0 (i : Nat) : p_cnT (fun _ => 0) i = 0 := by
  induction i with
  | zero => rfl
  | succ i ih => show p_cnT _ i + _ = 0; rw [ih, if_pos rfl]
theorem p_cnT_out {T : Nat → Int32} {x : Nat} {v : Int32} (i : Nat) (h : i ≤ x) : p_cnT (upd T x v) i = p_cnT T i := by
  induction i with
  | zero => rfl
  | succ i ih =>
    show p_cnT _ i + _ = p_cnT T i + _
    rw [ih (by omega), pk_un (by omega)]
theorem p_cnT_up {T : Nat → Int32} {x : Nat} (h0 : T x = 0) (i : Nat) (h : x < i) : p_cnT (upd T x 1) i = p_cnT T i + 1 := by
  induction i with
  | zero => exact absurd h (Nat.not_lt_zero _)
  | succ i ih =>
    show p_cnT _ i + _ = p_cnT T i + _ + 1
    by_cases e : x = i
    · subst e
      rw [p_cnT_out x (Nat.le_refl _), pk_us, h0, if_neg (by decide), if_pos rfl]
    · rw [ih (by omega), pk_un (fun z => e z.symm)]
      omega
theorem p_tl_cnt {L : Nat → Int32} {k : Nat} : ∀ {T : Nat → Int32}, p_tl L k T → p_cnT T 256 = k := by
  induction k with
  | zero => intro T h; rw [h]; exact p_cnT_0 256
  | succ k ih =>
    intro T h
    obtain ⟨x, T0, h1, h2, h3, rfl, h5⟩ := h
    rw [p_cnT_up h3 256 h1, ih h5]
theorem p_tl_room {L T : Nat → Int32} {k x : Nat} (h : p_tl L k T) (hx : x < 256) (h0 : T x = 0) : k < 256 := by
  have h1 := p_tl_cnt (p_tl_push h hx h0)
  have h2 := p_cnT_le (upd T x 1) 256
  omega
theorem p_tl_le {L T : Nat → Int32} {k : Nat} (h : p_tl L k T) : k ≤ 256 := by
  have h1 := p_tl_cnt h
  have h2 := p_cnT_le T 256
  omega
theorem p_unt_congr {L L' : Nat → Int32} {lo k : Nat} : ∀ {T : Nat → Int32}, (∀ i, i < k → L' i = L i) → p_unt L' lo k T = p_unt L lo k T := by
  induction k with
  | zero => intro T _; rfl
  | succ k ih =>
    intro T h
    show (if lo ≤ k then _ else _) = (if lo ≤ k then _ else _)
    rw [h k (Nat.lt_succ_self k), ih (fun i hi => h i (by omega))]
theorem p_und_congr {CH CH' : Nat → Int32} {BE BE' : Nat → Int64} {lo k : Nat} : ∀ {V : Nat → Int64}, (∀ i, i < k → CH' i = CH i) → (∀ i, i < k → BE' i = BE i) → p_und CH' BE' lo k V = p_und CH BE lo k V := by
  induction k with
  | zero => intro V _ _; rfl
  | succ k ih =>
    intro V h h2
    show (if lo ≤ k then _ else _) = (if lo ≤ k then _ else _)
    rw [h k (Nat.lt_succ_self k), h2 k (Nat.lt_succ_self k), ih (fun i hi => h i (by omega)) (fun i hi => h2 i (by omega))]
theorem p_unt_push {L T : Nat → Int32} {lo k x : Nat} (hlo : lo ≤ k) (hx : x < 256) (h0 : T x = 0) : p_unt (upd L k (nI x)) lo (k + 1) (upd T x 1) = p_unt L lo k T := by
  rw [p_unt_ge hlo, pk_us, nI_clamp (by omega), p_upd_back h0]
  exact p_unt_congr (fun i hi => pk_un (Nat.ne_of_lt hi))
theorem p_updL_back {V : Nat → Int64} {x : Nat} {v : Int64} : vp_updL (vp_updL V x v) x (V x) = V := by
  funext j
  unfold vp_updL
  by_cases e : j = x
  · subst e; rw [if_pos rfl]
  · rw [if_neg e, if_neg e]
theorem p_und_push {CH C0 : Nat → Int32} {BE B0 : Nat → Int64} {V : Nat → Int64} {lo k x : Nat} {v : Int64} (hlo : lo ≤ k) (hx : x < 256) (h1 : ∀ i, i < k → C0 i = CH i) (h2 : ∀ i, i < k → B0 i = BE i) : p_und (upd C0 k (nI x)) (vp_updL B0 k (V x)) lo (k + 1) (vp_updL V x v) = p_und CH BE lo k V := by
  rw [p_und_ge hlo, pk_us, pk_uLs, nI_clamp (by omega), p_updL_back]
  exact p_und_congr (fun i hi => by rw [pk_un (Nat.ne_of_lt hi)]; exact h1 i hi) (fun i hi => by rw [pk_uLn (Nat.ne_of_lt hi)]; exact h2 i hi)
theorem p_unt_comp {L : Nat → Int32} {lo mid k : Nat} : ∀ {T : Nat → Int32}, lo ≤ mid → mid ≤ k → p_unt L lo mid (p_unt L mid k T) = p_unt L lo k T := by
  induction k with
  | zero =>
    intro T h1 h2
    have e1 : mid = 0 := by omega
    subst e1
    have e2 : lo = 0 := by omega
    subst e2
    rfl
  | succ k ih =>
    intro T h1 h2
    by_cases e : mid = k + 1
    · subst e; rw [p_unt_0]
    · rw [p_unt_ge (show mid ≤ k by omega), p_unt_ge (show lo ≤ k by omega)]
      exact ih h1 (by omega)
theorem p_und_comp {CH : Nat → Int32} {BE : Nat → Int64} {lo mid k : Nat} : ∀ {V : Nat → Int64}, lo ≤ mid → mid ≤ k → p_und CH BE lo mid (p_und CH BE mid k V) = p_und CH BE lo k V := by
  induction k with
  | zero =>
    intro V h1 h2
    have e1 : mid = 0 := by omega
    subst e1
    have e2 : lo = 0 := by omega
    subst e2
    rfl
  | succ k ih =>
    intro V h1 h2
    by_cases e : mid = k + 1
    · subst e; rw [p_und_0]
    · rw [p_und_ge (show mid ≤ k by omega), p_und_ge (show lo ≤ k by omega)]
      exact ih h1 (by omega)
/-- the levels: what was noted at each opening, and the copy that was kept there -/
def p_lev (V : Nat → Int64) (T L : Nat → Int32) (tc : Nat) (CH : Nat → Int32) (BE : Nat → Int64) (cd : Nat) (C1 C2 C3 : Nat → Int32) (dp : Nat) (KR : Nat → Int32) (K : Nat → Nat → Int64) (KT : Nat → Nat → Int32) : Prop :=
  ∃ c t : Nat → Nat, (∀ d, d < dp → C1 d = nI (c d) ∧ C2 d = nI (t d) ∧ c d ≤ cd ∧ t d ≤ tc ∧ C3 d = KR (d + 1) ∧ K (d + 1) = p_und CH BE (c d) cd V ∧ KT (d + 1) = p_unt L (t d) tc T) ∧ ∀ d e, d < e → e < dp → c d ≤ c e ∧ t d ≤ t e
def p_inv (V : Nat → Int64) (T L : Nat → Int32) (tc n : Nat) (CH : Nat → Int32) (BE : Nat → Int64) (cd : Nat) (C1 C2 C3 : Nat → Int32) (dp : Nat) (KR : Nat → Int32) (K : Nat → Nat → Int64) (KT : Nat → Nat → Int32) : Prop :=
  p_tl L tc T ∧ p_ix CH cd ∧ cd ≤ n ∧ dp ≤ 30 ∧ p_lev V T L tc CH BE cd C1 C2 C3 dp KR K KT
section PINV
variable {V : Nat → Int64} {T L : Nat → Int32} {tc n : Nat} {CH : Nat → Int32} {BE : Nat → Int64} {cd : Nat} {C1 C2 C3 : Nat → Int32} {dp : Nat} {KR : Nat → Int32} {K : Nat → Nat → Int64} {KT : Nat → Nat → Int32}
theorem p_inv_start {L : Nat → Int32} {n : Nat} {V : Nat → Int64} {CH : Nat → Int32} {BE : Nat → Int64} : p_inv V (fun _ => 0) L 0 n CH BE 0 C1 C2 C3 0 KR K KT :=
  ⟨rfl, fun i hi => absurd hi (Nat.not_lt_zero i), Nat.zero_le _, Nat.zero_le _, fun _ => 0, fun _ => 0, fun d hd => absurd hd (Nat.not_lt_zero d), fun d e _ he => absurd he (Nat.not_lt_zero e)⟩
theorem p_inv_open {rf : Int32} (h : p_inv V T L tc n CH BE cd C1 C2 C3 dp KR K KT) (hd : dp < 30) : p_inv V T L tc n CH BE cd (upd C1 dp (nI cd)) (upd C2 dp (nI tc)) (upd C3 dp rf) (dp + 1) (upd KR (dp + 1) rf) (va_up K (dp + 1) V) (va_up KT (dp + 1) T) := by
  obtain ⟨h1, h2, h3, h4, c, t, h5, h6⟩ := h
  refine ⟨h1, h2, h3, by omega, fun d => if d = dp then cd else c d, fun d => if d = dp then tc else t d, fun d hd2 => ?_, fun d e hde he => ?_⟩
  · by_cases e : d = dp
    · subst e
      dsimp only
      rw [if_pos rfl, if_pos rfl, pk_us, pk_us, pk_us, pk_us, va_up_self, va_up_self, p_und_0, p_unt_0]
      exact ⟨rfl, rfl, Nat.le_refl _, Nat.le_refl _, rfl, rfl, rfl⟩
    · dsimp only
      rw [if_neg e, if_neg e, pk_un e, pk_un e, pk_un e, pk_un (by omega), va_up_ne _ _ (by omega), va_up_ne _ _ (by omega)]
      exact h5 d (by omega)
  · dsimp only
    have hd9 : ¬ d = dp := by omega
    rw [if_neg hd9, if_neg hd9]
    by_cases e2 : e = dp
    · rw [if_pos e2, if_pos e2]
      obtain ⟨-, -, a1, a2, -⟩ := h5 d (by omega)
      exact ⟨a1, a2⟩
    · rw [if_neg e2, if_neg e2]
      exact h6 d e hde (by omega)
theorem p_inv_good (h : p_inv V T L tc n CH BE cd C1 C2 C3 (dp + 1) KR K KT) : p_inv V T L tc n CH BE cd C1 C2 C3 dp KR K KT := by
  obtain ⟨h1, h2, h3, h4, c, t, h5, h6⟩ := h
  exact ⟨h1, h2, h3, by omega, c, t, fun d hd => h5 d (by omega), fun d e hde he => h6 d e hde (by omega)⟩
theorem p_inv_bad (h : p_inv V T L tc n CH BE cd C1 C2 C3 (dp + 1) KR K KT) : ∃ c0 t0 : Nat, C1 dp = nI c0 ∧ C2 dp = nI t0 ∧ c0 ≤ cd ∧ t0 ≤ tc ∧ C3 dp = KR (dp + 1) ∧ K (dp + 1) = p_und CH BE c0 cd V ∧ KT (dp + 1) = p_unt L t0 tc T ∧ p_inv (p_und CH BE c0 cd V) (p_unt L t0 tc T) L t0 n CH BE c0 C1 C2 C3 dp KR K KT := by
  obtain ⟨h1, h2, h3, h4, c, t, h5, h6⟩ := h
  obtain ⟨a1, a2, a3, a4, a5, a6, a7⟩ := h5 dp (Nat.lt_succ_self dp)
  refine ⟨c dp, t dp, a1, a2, a3, a4, a5, a6, a7, p_tl_undo a4 h1, fun i hi => h2 i (by omega), by omega, by omega, c, t, fun d hd => ?_, fun d e hde he => h6 d e hde (by omega)⟩
  obtain ⟨b1, b2, b3, b4, b5, b6, b7⟩ := h5 d (by omega)
  obtain ⟨m1, m2⟩ := h6 d dp hd (Nat.lt_succ_self dp)
  exact ⟨b1, b2, m1, m2, b5, by rw [p_und_comp m1 a3]; exact b6, by rw [p_unt_comp m2 a4]; exact b7⟩
theorem p_inv_touch {x : Nat} (h : p_inv V T L tc n CH BE cd C1 C2 C3 dp KR K KT) (hx : x < 256) (h0 : T x = 0) : p_inv V (upd T x 1) (upd L tc (nI x)) (tc + 1) n CH BE cd C1 C2 C3 dp KR K KT := by
  obtain ⟨h1, h2, h3, h4, c, t, h5, h6⟩ := h
  refine ⟨p_tl_push h1 hx h0, h2, h3, h4, c, t, fun d hd => ?_, h6⟩
  obtain ⟨b1, b2, b3, b4, b5, b6, b7⟩ := h5 d hd
  exact ⟨b1, b2, b3, by omega, b5, b6, by rw [p_unt_push b4 hx h0]; exact b7⟩
theorem p_inv_tch {x tc' : Nat} {T' L' : Nat → Int32} (h : p_inv V T L tc n CH BE cd C1 C2 C3 dp KR K KT) (hx : x < 256) (ht : p_tch T L tc x T' L' tc') : p_inv V T' L' tc' n CH BE cd C1 C2 C3 dp KR K KT ∧ T' = upd T x 1 := by
  rcases ht with ⟨h1, rfl, rfl, rfl⟩ | ⟨h1, rfl, rfl, rfl⟩
  · refine ⟨h, ?_⟩
    funext j
    by_cases e : j = x
    · subst e
      rw [pk_us]
      exact (p_tl_bool h.1 j).resolve_left h1
    · rw [pk_un e]
  · exact ⟨p_inv_touch h hx h1, rfl⟩
theorem p_inv_sto {F : Nat → Int64} {x n' cd' : Nat} {v : Int64} {V' : Nat → Int64} {CH' : Nat → Int32} {BE' : Nat → Int64} {rf rf' : Int32} (h : p_inv V T L tc n CH BE cd C1 C2 C3 dp KR K KT) (hn0 : 0 < n) (hx : x < 256) (hs : p_sto V F n CH BE cd rf x v V' n' CH' BE' cd' rf') : p_inv V' T L tc n' CH' BE' cd' C1 C2 C3 dp KR K KT ∧ V' = vp_updL V x v ∧ rf' = rf + p_given (F x) (V x) v ∧ cd' ≤ cd + 1 ∧ (n' = n ∨ (n = cd ∧ n' = 2 * n)) := by
  rcases hs with ⟨h1, rfl, rfl, rfl, rfl, rfl, rfl⟩ | ⟨h1, rfl, h2, ⟨C0, c1, rfl⟩, ⟨B0, b1, rfl⟩, rfl, rfl⟩
  · refine ⟨h, ?_, ?_, by omega, Or.inl rfl⟩
    · funext j
      by_cases e : j = x
      · subst e; rw [pk_uLs]; exact h1.symm
      · rw [pk_uLn e]
    · rw [p_given_same h1, Int32.add_zero]
  · obtain ⟨g1, g2, g3, g4, c, t, g5, g6⟩ := h
    refine ⟨⟨g1, fun i hi => ?_, by omega, g4, c, t, fun d hd => ?_, g6⟩, rfl, rfl, Nat.le_refl _, by rcases h2 with ⟨-, e⟩ | ⟨e1, e2⟩; exact Or.inl e; exact Or.inr ⟨e1.symm, e2⟩⟩
    · by_cases e : i = cd
      · subst e; exact ⟨x, hx, pk_us⟩
      · rw [pk_un e, c1 i (by omega)]
        exact g2 i (by omega)
    · obtain ⟨q1, q2, q3, q4, q5, q6, q7⟩ := g5 d hd
      exact ⟨q1, q2, by omega, q4, q5, by rw [p_und_push q3 hx (fun i hi => c1 i (by omega)) (fun i hi => b1 i (by omega))]; exact q6, q7⟩
end PINV
end
section
theorem d_LW_law_0 : decode code 0 = .ok (.new 8, 3) := by decide +kernel
theorem d_LW_law_3 : decode code 3 = .ok (.dup, 1) := by decide +kernel
theorem d_LW_law_4 : decode code 4 = .ok (.invokespecial 43, 3) := by decide +kernel
theorem d_LW_law_7 : decode code 7 = .ok (.astore_n 1, 1) := by decide +kernel
theorem d_LW_law_8 : decode code 8 = .ok (.new 44, 3) := by decide +kernel
theorem d_LW_law_11 : decode code 11 = .ok (.dup, 1) := by decide +kernel
theorem d_LW_law_12 : decode code 12 = .ok (.invokespecial 46, 3) := by decide +kernel
theorem d_LW_law_15 : decode code 15 = .ok (.astore_n 2, 1) := by decide +kernel
theorem d_LW_law_16 : decode code 16 = .ok (.iconst 1, 1) := by decide +kernel
theorem d_LW_law_17 : decode code 17 = .ok (.newarray .long, 2) := by decide +kernel
theorem d_LW_law_19 : decode code 19 = .ok (.astore_n 3, 1) := by decide +kernel
theorem d_LW_law_20 : decode code 20 = .ok (.iconst 0, 1) := by decide +kernel
theorem d_LW_law_21 : decode code 21 = .ok (.istore 4, 2) := by decide +kernel
theorem d_LW_law_23 : decode code 23 = .ok (.iload 4, 2) := by decide +kernel
theorem d_LW_law_25 : decode code 25 = .ok (.aload_n 0, 1) := by decide +kernel
theorem d_LW_law_26 : decode code 26 = .ok (.arraylength, 1) := by decide +kernel
theorem d_LW_law_27 : decode code 27 = .ok (.bipush 6, 2) := by decide +kernel
theorem d_LW_law_29 : decode code 29 = .ok (.isub, 1) := by decide +kernel
theorem d_LW_law_30 : decode code 30 = .ok (.if_icmp .gt 611, 3) := by decide +kernel
theorem d_LW_law_33 : decode code 33 = .ok (.aload_n 0, 1) := by decide +kernel
theorem d_LW_law_34 : decode code 34 = .ok (.iload 4, 2) := by decide +kernel
theorem d_LW_law_36 : decode code 36 = .ok (.iaload, 1) := by decide +kernel
theorem d_LW_law_37 : decode code 37 = .ok (.bipush 7, 2) := by decide +kernel
theorem d_LW_law_39 : decode code 39 = .ok (.iand, 1) := by decide +kernel
theorem d_LW_law_40 : decode code 40 = .ok (.tableswitch 595 0 7 #[48, 61, 105, 177, 245, 369, 464, 539], 48) := by decide +kernel
theorem d_LW_law_88 : decode code 88 = .ok (.aload_n 1, 1) := by decide +kernel
theorem d_LW_law_89 : decode code 89 = .ok (.invokevirtual 47, 3) := by decide +kernel
theorem d_LW_law_92 : decode code 92 = .ok (.aload_n 2, 1) := by decide +kernel
theorem d_LW_law_93 : decode code 93 = .ok (.invokevirtual 50, 3) := by decide +kernel
theorem d_LW_law_96 : decode code 96 = .ok (.if_icmp .eq 539, 3) := by decide +kernel
theorem d_LW_law_99 : decode code 99 = .ok (.iconst 0, 1) := by decide +kernel
theorem d_LW_law_100 : decode code 100 = .ok (.ireturn, 1) := by decide +kernel
theorem d_LW_law_101 : decode code 101 = .ok (.aload_n 1, 1) := by decide +kernel
theorem d_LW_law_102 : decode code 102 = .ok (.aload_n 3, 1) := by decide +kernel
theorem d_LW_law_103 : decode code 103 = .ok (.invokestatic 51, 3) := by decide +kernel
theorem d_LW_law_106 : decode code 106 = .ok (.istore 5, 2) := by decide +kernel
theorem d_LW_law_108 : decode code 108 = .ok (.aload_n 2, 1) := by decide +kernel
theorem d_LW_law_109 : decode code 109 = .ok (.invokevirtual 56, 3) := by decide +kernel
theorem d_LW_law_112 : decode code 112 = .ok (.istore 6, 2) := by decide +kernel
theorem d_LW_law_114 : decode code 114 = .ok (.aload_n 2, 1) := by decide +kernel
theorem d_LW_law_115 : decode code 115 = .ok (.invokevirtual 57, 3) := by decide +kernel
theorem d_LW_law_118 : decode code 118 = .ok (.iload 5, 2) := by decide +kernel
theorem d_LW_law_120 : decode code 120 = .ok (.if_icmp .eq 5, 3) := by decide +kernel
theorem d_LW_law_123 : decode code 123 = .ok (.iconst 0, 1) := by decide +kernel
theorem d_LW_law_124 : decode code 124 = .ok (.ireturn, 1) := by decide +kernel
theorem d_LW_law_125 : decode code 125 = .ok (.iload 5, 2) := by decide +kernel
theorem d_LW_law_127 : decode code 127 = .ok (.ifCond .ne 15, 3) := by decide +kernel
theorem d_LW_law_130 : decode code 130 = .ok (.aload_n 3, 1) := by decide +kernel
theorem d_LW_law_131 : decode code 131 = .ok (.iconst 0, 1) := by decide +kernel
theorem d_LW_law_132 : decode code 132 = .ok (.laload, 1) := by decide +kernel
theorem d_LW_law_133 : decode code 133 = .ok (.iload 6, 2) := by decide +kernel
theorem d_LW_law_135 : decode code 135 = .ok (.i2l, 1) := by decide +kernel
theorem d_LW_law_136 : decode code 136 = .ok (.lcmp, 1) := by decide +kernel
theorem d_LW_law_137 : decode code 137 = .ok (.ifCond .eq 5, 3) := by decide +kernel
theorem d_LW_law_140 : decode code 140 = .ok (.iconst 0, 1) := by decide +kernel
theorem d_LW_law_141 : decode code 141 = .ok (.ireturn, 1) := by decide +kernel
theorem d_LW_law_142 : decode code 142 = .ok (.goto 493, 3) := by decide +kernel
theorem d_LW_law_145 : decode code 145 = .ok (.aload_n 1, 1) := by decide +kernel
theorem d_LW_law_146 : decode code 146 = .ok (.aload_n 0, 1) := by decide +kernel
theorem d_LW_law_147 : decode code 147 = .ok (.iload 4, 2) := by decide +kernel
theorem d_LW_law_149 : decode code 149 = .ok (.iconst 1, 1) := by decide +kernel
theorem d_LW_law_150 : decode code 150 = .ok (.iadd, 1) := by decide +kernel
theorem d_LW_law_151 : decode code 151 = .ok (.iaload, 1) := by decide +kernel
theorem d_LW_law_152 : decode code 152 = .ok (.ifCond .eq 7, 3) := by decide +kernel
theorem d_LW_law_155 : decode code 155 = .ok (.iconst 1, 1) := by decide +kernel
theorem d_LW_law_156 : decode code 156 = .ok (.goto 4, 3) := by decide +kernel
theorem d_LW_law_159 : decode code 159 = .ok (.iconst 0, 1) := by decide +kernel
theorem d_LW_law_160 : decode code 160 = .ok (.aload_n 3, 1) := by decide +kernel
theorem d_LW_law_161 : decode code 161 = .ok (.invokestatic 60, 3) := by decide +kernel
theorem d_LW_law_164 : decode code 164 = .ok (.istore 5, 2) := by decide +kernel
theorem d_LW_law_166 : decode code 166 = .ok (.aload_n 2, 1) := by decide +kernel
theorem d_LW_law_167 : decode code 167 = .ok (.aload_n 0, 1) := by decide +kernel
theorem d_LW_law_168 : decode code 168 = .ok (.iload 4, 2) := by decide +kernel
theorem d_LW_law_170 : decode code 170 = .ok (.iconst 1, 1) := by decide +kernel
theorem d_LW_law_171 : decode code 171 = .ok (.iadd, 1) := by decide +kernel
theorem d_LW_law_172 : decode code 172 = .ok (.iaload, 1) := by decide +kernel
theorem d_LW_law_173 : decode code 173 = .ok (.ifCond .eq 7, 3) := by decide +kernel
theorem d_LW_law_176 : decode code 176 = .ok (.iconst 1, 1) := by decide +kernel
theorem d_LW_law_177 : decode code 177 = .ok (.goto 4, 3) := by decide +kernel
theorem d_LW_law_180 : decode code 180 = .ok (.iconst 0, 1) := by decide +kernel
theorem d_LW_law_181 : decode code 181 = .ok (.invokevirtual 63, 3) := by decide +kernel
theorem d_LW_law_184 : decode code 184 = .ok (.istore 6, 2) := by decide +kernel
theorem d_LW_law_186 : decode code 186 = .ok (.aload_n 2, 1) := by decide +kernel
theorem d_LW_law_187 : decode code 187 = .ok (.invokevirtual 57, 3) := by decide +kernel
theorem d_LW_law_190 : decode code 190 = .ok (.iload 5, 2) := by decide +kernel
theorem d_LW_law_192 : decode code 192 = .ok (.if_icmp .eq 5, 3) := by decide +kernel
theorem d_LW_law_195 : decode code 195 = .ok (.iconst 0, 1) := by decide +kernel
theorem d_LW_law_196 : decode code 196 = .ok (.ireturn, 1) := by decide +kernel
theorem d_LW_law_197 : decode code 197 = .ok (.iload 5, 2) := by decide +kernel
theorem d_LW_law_199 : decode code 199 = .ok (.ifCond .ne 15, 3) := by decide +kernel
theorem d_LW_law_202 : decode code 202 = .ok (.aload_n 3, 1) := by decide +kernel
theorem d_LW_law_203 : decode code 203 = .ok (.iconst 0, 1) := by decide +kernel
theorem d_LW_law_204 : decode code 204 = .ok (.laload, 1) := by decide +kernel
theorem d_LW_law_205 : decode code 205 = .ok (.iload 6, 2) := by decide +kernel
theorem d_LW_law_207 : decode code 207 = .ok (.i2l, 1) := by decide +kernel
theorem d_LW_law_208 : decode code 208 = .ok (.lcmp, 1) := by decide +kernel
theorem d_LW_law_209 : decode code 209 = .ok (.ifCond .eq 5, 3) := by decide +kernel
theorem d_LW_law_212 : decode code 212 = .ok (.iconst 0, 1) := by decide +kernel
theorem d_LW_law_213 : decode code 213 = .ok (.ireturn, 1) := by decide +kernel
theorem d_LW_law_214 : decode code 214 = .ok (.goto 421, 3) := by decide +kernel
end
section
theorem d_LW_law_217 : decode code 217 = .ok (.aload_n 1, 1) := by decide +kernel
theorem d_LW_law_218 : decode code 218 = .ok (.aload_n 0, 1) := by decide +kernel
theorem d_LW_law_219 : decode code 219 = .ok (.iload 4, 2) := by decide +kernel
theorem d_LW_law_221 : decode code 221 = .ok (.iconst 1, 1) := by decide +kernel
theorem d_LW_law_222 : decode code 222 = .ok (.iadd, 1) := by decide +kernel
theorem d_LW_law_223 : decode code 223 = .ok (.iaload, 1) := by decide +kernel
theorem d_LW_law_224 : decode code 224 = .ok (.aload_n 0, 1) := by decide +kernel
theorem d_LW_law_225 : decode code 225 = .ok (.iload 4, 2) := by decide +kernel
theorem d_LW_law_227 : decode code 227 = .ok (.iconst 2, 1) := by decide +kernel
theorem d_LW_law_228 : decode code 228 = .ok (.iadd, 1) := by decide +kernel
theorem d_LW_law_229 : decode code 229 = .ok (.iaload, 1) := by decide +kernel
theorem d_LW_law_230 : decode code 230 = .ok (.aload_n 3, 1) := by decide +kernel
theorem d_LW_law_231 : decode code 231 = .ok (.invokestatic 64, 3) := by decide +kernel
theorem d_LW_law_234 : decode code 234 = .ok (.istore 5, 2) := by decide +kernel
theorem d_LW_law_236 : decode code 236 = .ok (.aload_n 2, 1) := by decide +kernel
theorem d_LW_law_237 : decode code 237 = .ok (.aload_n 0, 1) := by decide +kernel
theorem d_LW_law_238 : decode code 238 = .ok (.iload 4, 2) := by decide +kernel
theorem d_LW_law_240 : decode code 240 = .ok (.iconst 1, 1) := by decide +kernel
theorem d_LW_law_241 : decode code 241 = .ok (.iadd, 1) := by decide +kernel
theorem d_LW_law_242 : decode code 242 = .ok (.iaload, 1) := by decide +kernel
theorem d_LW_law_243 : decode code 243 = .ok (.aload_n 0, 1) := by decide +kernel
theorem d_LW_law_244 : decode code 244 = .ok (.iload 4, 2) := by decide +kernel
theorem d_LW_law_246 : decode code 246 = .ok (.iconst 2, 1) := by decide +kernel
theorem d_LW_law_247 : decode code 247 = .ok (.iadd, 1) := by decide +kernel
theorem d_LW_law_248 : decode code 248 = .ok (.iaload, 1) := by decide +kernel
theorem d_LW_law_249 : decode code 249 = .ok (.invokevirtual 67, 3) := by decide +kernel
theorem d_LW_law_252 : decode code 252 = .ok (.istore 6, 2) := by decide +kernel
theorem d_LW_law_254 : decode code 254 = .ok (.aload_n 2, 1) := by decide +kernel
theorem d_LW_law_255 : decode code 255 = .ok (.invokevirtual 57, 3) := by decide +kernel
theorem d_LW_law_258 : decode code 258 = .ok (.iload 5, 2) := by decide +kernel
theorem d_LW_law_260 : decode code 260 = .ok (.if_icmp .eq 5, 3) := by decide +kernel
theorem d_LW_law_263 : decode code 263 = .ok (.iconst 0, 1) := by decide +kernel
theorem d_LW_law_264 : decode code 264 = .ok (.ireturn, 1) := by decide +kernel
theorem d_LW_law_265 : decode code 265 = .ok (.iload 5, 2) := by decide +kernel
theorem d_LW_law_267 : decode code 267 = .ok (.ifCond .ne 15, 3) := by decide +kernel
theorem d_LW_law_270 : decode code 270 = .ok (.aload_n 3, 1) := by decide +kernel
theorem d_LW_law_271 : decode code 271 = .ok (.iconst 0, 1) := by decide +kernel
theorem d_LW_law_272 : decode code 272 = .ok (.laload, 1) := by decide +kernel
theorem d_LW_law_273 : decode code 273 = .ok (.iload 6, 2) := by decide +kernel
theorem d_LW_law_275 : decode code 275 = .ok (.i2l, 1) := by decide +kernel
theorem d_LW_law_276 : decode code 276 = .ok (.lcmp, 1) := by decide +kernel
theorem d_LW_law_277 : decode code 277 = .ok (.ifCond .eq 5, 3) := by decide +kernel
theorem d_LW_law_280 : decode code 280 = .ok (.iconst 0, 1) := by decide +kernel
theorem d_LW_law_281 : decode code 281 = .ok (.ireturn, 1) := by decide +kernel
theorem d_LW_law_282 : decode code 282 = .ok (.goto 353, 3) := by decide +kernel
theorem d_LW_law_285 : decode code 285 = .ok (.aload_n 1, 1) := by decide +kernel
theorem d_LW_law_286 : decode code 286 = .ok (.aload_n 0, 1) := by decide +kernel
theorem d_LW_law_287 : decode code 287 = .ok (.iload 4, 2) := by decide +kernel
theorem d_LW_law_289 : decode code 289 = .ok (.iconst 1, 1) := by decide +kernel
theorem d_LW_law_290 : decode code 290 = .ok (.iadd, 1) := by decide +kernel
theorem d_LW_law_291 : decode code 291 = .ok (.iaload, 1) := by decide +kernel
theorem d_LW_law_292 : decode code 292 = .ok (.aload_n 0, 1) := by decide +kernel
theorem d_LW_law_293 : decode code 293 = .ok (.iload 4, 2) := by decide +kernel
theorem d_LW_law_295 : decode code 295 = .ok (.iconst 2, 1) := by decide +kernel
theorem d_LW_law_296 : decode code 296 = .ok (.iadd, 1) := by decide +kernel
theorem d_LW_law_297 : decode code 297 = .ok (.iaload, 1) := by decide +kernel
theorem d_LW_law_298 : decode code 298 = .ok (.aload_n 0, 1) := by decide +kernel
theorem d_LW_law_299 : decode code 299 = .ok (.iload 4, 2) := by decide +kernel
theorem d_LW_law_301 : decode code 301 = .ok (.iconst 3, 1) := by decide +kernel
theorem d_LW_law_302 : decode code 302 = .ok (.iadd, 1) := by decide +kernel
theorem d_LW_law_303 : decode code 303 = .ok (.iaload, 1) := by decide +kernel
theorem d_LW_law_304 : decode code 304 = .ok (.i2l, 1) := by decide +kernel
theorem d_LW_law_305 : decode code 305 = .ok (.bipush 32, 2) := by decide +kernel
theorem d_LW_law_307 : decode code 307 = .ok (.lshl, 1) := by decide +kernel
theorem d_LW_law_308 : decode code 308 = .ok (.aload_n 0, 1) := by decide +kernel
theorem d_LW_law_309 : decode code 309 = .ok (.iload 4, 2) := by decide +kernel
theorem d_LW_law_311 : decode code 311 = .ok (.iconst 4, 1) := by decide +kernel
theorem d_LW_law_312 : decode code 312 = .ok (.iadd, 1) := by decide +kernel
theorem d_LW_law_313 : decode code 313 = .ok (.iaload, 1) := by decide +kernel
theorem d_LW_law_314 : decode code 314 = .ok (.i2l, 1) := by decide +kernel
theorem d_LW_law_315 : decode code 315 = .ok (.ldc2_w 68, 3) := by decide +kernel
theorem d_LW_law_318 : decode code 318 = .ok (.land, 1) := by decide +kernel
theorem d_LW_law_319 : decode code 319 = .ok (.lor, 1) := by decide +kernel
theorem d_LW_law_320 : decode code 320 = .ok (.aload_n 0, 1) := by decide +kernel
theorem d_LW_law_321 : decode code 321 = .ok (.iload 4, 2) := by decide +kernel
theorem d_LW_law_323 : decode code 323 = .ok (.iconst 5, 1) := by decide +kernel
theorem d_LW_law_324 : decode code 324 = .ok (.iadd, 1) := by decide +kernel
theorem d_LW_law_325 : decode code 325 = .ok (.iaload, 1) := by decide +kernel
theorem d_LW_law_326 : decode code 326 = .ok (.aload_n 3, 1) := by decide +kernel
theorem d_LW_law_327 : decode code 327 = .ok (.invokestatic 70, 3) := by decide +kernel
theorem d_LW_law_330 : decode code 330 = .ok (.istore 5, 2) := by decide +kernel
theorem d_LW_law_332 : decode code 332 = .ok (.aload_n 2, 1) := by decide +kernel
theorem d_LW_law_333 : decode code 333 = .ok (.aload_n 0, 1) := by decide +kernel
theorem d_LW_law_334 : decode code 334 = .ok (.iload 4, 2) := by decide +kernel
theorem d_LW_law_336 : decode code 336 = .ok (.iconst 1, 1) := by decide +kernel
theorem d_LW_law_337 : decode code 337 = .ok (.iadd, 1) := by decide +kernel
theorem d_LW_law_338 : decode code 338 = .ok (.iaload, 1) := by decide +kernel
theorem d_LW_law_339 : decode code 339 = .ok (.aload_n 0, 1) := by decide +kernel
theorem d_LW_law_340 : decode code 340 = .ok (.iload 4, 2) := by decide +kernel
theorem d_LW_law_342 : decode code 342 = .ok (.iconst 2, 1) := by decide +kernel
theorem d_LW_law_343 : decode code 343 = .ok (.iadd, 1) := by decide +kernel
theorem d_LW_law_344 : decode code 344 = .ok (.iaload, 1) := by decide +kernel
theorem d_LW_law_345 : decode code 345 = .ok (.aload_n 0, 1) := by decide +kernel
theorem d_LW_law_346 : decode code 346 = .ok (.iload 4, 2) := by decide +kernel
theorem d_LW_law_348 : decode code 348 = .ok (.iconst 3, 1) := by decide +kernel
theorem d_LW_law_349 : decode code 349 = .ok (.iadd, 1) := by decide +kernel
theorem d_LW_law_350 : decode code 350 = .ok (.iaload, 1) := by decide +kernel
theorem d_LW_law_351 : decode code 351 = .ok (.i2l, 1) := by decide +kernel
theorem d_LW_law_352 : decode code 352 = .ok (.bipush 32, 2) := by decide +kernel
theorem d_LW_law_354 : decode code 354 = .ok (.lshl, 1) := by decide +kernel
end
section
theorem d_LW_law_355 : decode code 355 = .ok (.aload_n 0, 1) := by decide +kernel
theorem d_LW_law_356 : decode code 356 = .ok (.iload 4, 2) := by decide +kernel
theorem d_LW_law_358 : decode code 358 = .ok (.iconst 4, 1) := by decide +kernel
theorem d_LW_law_359 : decode code 359 = .ok (.iadd, 1) := by decide +kernel
theorem d_LW_law_360 : decode code 360 = .ok (.iaload, 1) := by decide +kernel
theorem d_LW_law_361 : decode code 361 = .ok (.i2l, 1) := by decide +kernel
theorem d_LW_law_362 : decode code 362 = .ok (.ldc2_w 68, 3) := by decide +kernel
theorem d_LW_law_365 : decode code 365 = .ok (.land, 1) := by decide +kernel
theorem d_LW_law_366 : decode code 366 = .ok (.lor, 1) := by decide +kernel
theorem d_LW_law_367 : decode code 367 = .ok (.aload_n 0, 1) := by decide +kernel
theorem d_LW_law_368 : decode code 368 = .ok (.iload 4, 2) := by decide +kernel
theorem d_LW_law_370 : decode code 370 = .ok (.iconst 5, 1) := by decide +kernel
theorem d_LW_law_371 : decode code 371 = .ok (.iadd, 1) := by decide +kernel
theorem d_LW_law_372 : decode code 372 = .ok (.iaload, 1) := by decide +kernel
theorem d_LW_law_373 : decode code 373 = .ok (.invokevirtual 73, 3) := by decide +kernel
theorem d_LW_law_376 : decode code 376 = .ok (.istore 6, 2) := by decide +kernel
theorem d_LW_law_378 : decode code 378 = .ok (.aload_n 2, 1) := by decide +kernel
theorem d_LW_law_379 : decode code 379 = .ok (.invokevirtual 57, 3) := by decide +kernel
theorem d_LW_law_382 : decode code 382 = .ok (.iload 5, 2) := by decide +kernel
theorem d_LW_law_384 : decode code 384 = .ok (.if_icmp .eq 5, 3) := by decide +kernel
theorem d_LW_law_387 : decode code 387 = .ok (.iconst 0, 1) := by decide +kernel
theorem d_LW_law_388 : decode code 388 = .ok (.ireturn, 1) := by decide +kernel
theorem d_LW_law_389 : decode code 389 = .ok (.iload 5, 2) := by decide +kernel
theorem d_LW_law_391 : decode code 391 = .ok (.ifCond .ne 15, 3) := by decide +kernel
theorem d_LW_law_394 : decode code 394 = .ok (.aload_n 3, 1) := by decide +kernel
theorem d_LW_law_395 : decode code 395 = .ok (.iconst 0, 1) := by decide +kernel
theorem d_LW_law_396 : decode code 396 = .ok (.laload, 1) := by decide +kernel
theorem d_LW_law_397 : decode code 397 = .ok (.iload 6, 2) := by decide +kernel
theorem d_LW_law_399 : decode code 399 = .ok (.i2l, 1) := by decide +kernel
theorem d_LW_law_400 : decode code 400 = .ok (.lcmp, 1) := by decide +kernel
theorem d_LW_law_401 : decode code 401 = .ok (.ifCond .eq 5, 3) := by decide +kernel
theorem d_LW_law_404 : decode code 404 = .ok (.iconst 0, 1) := by decide +kernel
theorem d_LW_law_405 : decode code 405 = .ok (.ireturn, 1) := by decide +kernel
theorem d_LW_law_406 : decode code 406 = .ok (.goto 229, 3) := by decide +kernel
theorem d_LW_law_409 : decode code 409 = .ok (.aload_n 1, 1) := by decide +kernel
theorem d_LW_law_410 : decode code 410 = .ok (.aload_n 0, 1) := by decide +kernel
theorem d_LW_law_411 : decode code 411 = .ok (.iload 4, 2) := by decide +kernel
theorem d_LW_law_413 : decode code 413 = .ok (.iconst 1, 1) := by decide +kernel
theorem d_LW_law_414 : decode code 414 = .ok (.iadd, 1) := by decide +kernel
theorem d_LW_law_415 : decode code 415 = .ok (.iaload, 1) := by decide +kernel
theorem d_LW_law_416 : decode code 416 = .ok (.aload_n 0, 1) := by decide +kernel
theorem d_LW_law_417 : decode code 417 = .ok (.iload 4, 2) := by decide +kernel
theorem d_LW_law_419 : decode code 419 = .ok (.iconst 2, 1) := by decide +kernel
theorem d_LW_law_420 : decode code 420 = .ok (.iadd, 1) := by decide +kernel
theorem d_LW_law_421 : decode code 421 = .ok (.iaload, 1) := by decide +kernel
theorem d_LW_law_422 : decode code 422 = .ok (.aload_n 0, 1) := by decide +kernel
theorem d_LW_law_423 : decode code 423 = .ok (.iload 4, 2) := by decide +kernel
theorem d_LW_law_425 : decode code 425 = .ok (.iconst 3, 1) := by decide +kernel
theorem d_LW_law_426 : decode code 426 = .ok (.iadd, 1) := by decide +kernel
theorem d_LW_law_427 : decode code 427 = .ok (.iaload, 1) := by decide +kernel
theorem d_LW_law_428 : decode code 428 = .ok (.ifCond .eq 7, 3) := by decide +kernel
theorem d_LW_law_431 : decode code 431 = .ok (.iconst 1, 1) := by decide +kernel
theorem d_LW_law_432 : decode code 432 = .ok (.goto 4, 3) := by decide +kernel
theorem d_LW_law_435 : decode code 435 = .ok (.iconst 0, 1) := by decide +kernel
theorem d_LW_law_436 : decode code 436 = .ok (.aload_n 3, 1) := by decide +kernel
theorem d_LW_law_437 : decode code 437 = .ok (.invokestatic 74, 3) := by decide +kernel
theorem d_LW_law_440 : decode code 440 = .ok (.istore 5, 2) := by decide +kernel
theorem d_LW_law_442 : decode code 442 = .ok (.aload_n 2, 1) := by decide +kernel
theorem d_LW_law_443 : decode code 443 = .ok (.aload_n 0, 1) := by decide +kernel
theorem d_LW_law_444 : decode code 444 = .ok (.iload 4, 2) := by decide +kernel
theorem d_LW_law_446 : decode code 446 = .ok (.iconst 1, 1) := by decide +kernel
theorem d_LW_law_447 : decode code 447 = .ok (.iadd, 1) := by decide +kernel
theorem d_LW_law_448 : decode code 448 = .ok (.iaload, 1) := by decide +kernel
theorem d_LW_law_449 : decode code 449 = .ok (.aload_n 0, 1) := by decide +kernel
theorem d_LW_law_450 : decode code 450 = .ok (.iload 4, 2) := by decide +kernel
theorem d_LW_law_452 : decode code 452 = .ok (.iconst 2, 1) := by decide +kernel
theorem d_LW_law_453 : decode code 453 = .ok (.iadd, 1) := by decide +kernel
theorem d_LW_law_454 : decode code 454 = .ok (.iaload, 1) := by decide +kernel
theorem d_LW_law_455 : decode code 455 = .ok (.aload_n 0, 1) := by decide +kernel
theorem d_LW_law_456 : decode code 456 = .ok (.iload 4, 2) := by decide +kernel
theorem d_LW_law_458 : decode code 458 = .ok (.iconst 3, 1) := by decide +kernel
theorem d_LW_law_459 : decode code 459 = .ok (.iadd, 1) := by decide +kernel
theorem d_LW_law_460 : decode code 460 = .ok (.iaload, 1) := by decide +kernel
theorem d_LW_law_461 : decode code 461 = .ok (.ifCond .eq 7, 3) := by decide +kernel
theorem d_LW_law_464 : decode code 464 = .ok (.iconst 1, 1) := by decide +kernel
theorem d_LW_law_465 : decode code 465 = .ok (.goto 4, 3) := by decide +kernel
theorem d_LW_law_468 : decode code 468 = .ok (.iconst 0, 1) := by decide +kernel
theorem d_LW_law_469 : decode code 469 = .ok (.invokevirtual 77, 3) := by decide +kernel
theorem d_LW_law_472 : decode code 472 = .ok (.lstore 6, 2) := by decide +kernel
theorem d_LW_law_474 : decode code 474 = .ok (.aload_n 2, 1) := by decide +kernel
theorem d_LW_law_475 : decode code 475 = .ok (.invokevirtual 57, 3) := by decide +kernel
theorem d_LW_law_478 : decode code 478 = .ok (.iload 5, 2) := by decide +kernel
theorem d_LW_law_480 : decode code 480 = .ok (.if_icmp .eq 5, 3) := by decide +kernel
theorem d_LW_law_483 : decode code 483 = .ok (.iconst 0, 1) := by decide +kernel
theorem d_LW_law_484 : decode code 484 = .ok (.ireturn, 1) := by decide +kernel
theorem d_LW_law_485 : decode code 485 = .ok (.iload 5, 2) := by decide +kernel
theorem d_LW_law_487 : decode code 487 = .ok (.ifCond .ne 14, 3) := by decide +kernel
theorem d_LW_law_490 : decode code 490 = .ok (.aload_n 3, 1) := by decide +kernel
theorem d_LW_law_491 : decode code 491 = .ok (.iconst 0, 1) := by decide +kernel
theorem d_LW_law_492 : decode code 492 = .ok (.laload, 1) := by decide +kernel
theorem d_LW_law_493 : decode code 493 = .ok (.lload 6, 2) := by decide +kernel
theorem d_LW_law_495 : decode code 495 = .ok (.lcmp, 1) := by decide +kernel
theorem d_LW_law_496 : decode code 496 = .ok (.ifCond .eq 5, 3) := by decide +kernel
theorem d_LW_law_499 : decode code 499 = .ok (.iconst 0, 1) := by decide +kernel
theorem d_LW_law_500 : decode code 500 = .ok (.ireturn, 1) := by decide +kernel
theorem d_LW_law_501 : decode code 501 = .ok (.goto 134, 3) := by decide +kernel
theorem d_LW_law_504 : decode code 504 = .ok (.aload_n 1, 1) := by decide +kernel
theorem d_LW_law_505 : decode code 505 = .ok (.aload_n 0, 1) := by decide +kernel
theorem d_LW_law_506 : decode code 506 = .ok (.iload 4, 2) := by decide +kernel
theorem d_LW_law_508 : decode code 508 = .ok (.iconst 1, 1) := by decide +kernel
end
section
theorem d_LW_law_509 : decode code 509 = .ok (.iadd, 1) := by decide +kernel
theorem d_LW_law_510 : decode code 510 = .ok (.iaload, 1) := by decide +kernel
theorem d_LW_law_511 : decode code 511 = .ok (.aload_n 0, 1) := by decide +kernel
theorem d_LW_law_512 : decode code 512 = .ok (.iload 4, 2) := by decide +kernel
theorem d_LW_law_514 : decode code 514 = .ok (.iconst 2, 1) := by decide +kernel
theorem d_LW_law_515 : decode code 515 = .ok (.iadd, 1) := by decide +kernel
theorem d_LW_law_516 : decode code 516 = .ok (.iaload, 1) := by decide +kernel
theorem d_LW_law_517 : decode code 517 = .ok (.aload_n 3, 1) := by decide +kernel
theorem d_LW_law_518 : decode code 518 = .ok (.invokestatic 78, 3) := by decide +kernel
theorem d_LW_law_521 : decode code 521 = .ok (.istore 5, 2) := by decide +kernel
theorem d_LW_law_523 : decode code 523 = .ok (.aload_n 2, 1) := by decide +kernel
theorem d_LW_law_524 : decode code 524 = .ok (.aload_n 0, 1) := by decide +kernel
theorem d_LW_law_525 : decode code 525 = .ok (.iload 4, 2) := by decide +kernel
theorem d_LW_law_527 : decode code 527 = .ok (.iconst 1, 1) := by decide +kernel
theorem d_LW_law_528 : decode code 528 = .ok (.iadd, 1) := by decide +kernel
theorem d_LW_law_529 : decode code 529 = .ok (.iaload, 1) := by decide +kernel
theorem d_LW_law_530 : decode code 530 = .ok (.aload_n 0, 1) := by decide +kernel
theorem d_LW_law_531 : decode code 531 = .ok (.iload 4, 2) := by decide +kernel
theorem d_LW_law_533 : decode code 533 = .ok (.iconst 2, 1) := by decide +kernel
theorem d_LW_law_534 : decode code 534 = .ok (.iadd, 1) := by decide +kernel
theorem d_LW_law_535 : decode code 535 = .ok (.iaload, 1) := by decide +kernel
theorem d_LW_law_536 : decode code 536 = .ok (.invokevirtual 80, 3) := by decide +kernel
theorem d_LW_law_539 : decode code 539 = .ok (.istore 6, 2) := by decide +kernel
theorem d_LW_law_541 : decode code 541 = .ok (.aload_n 2, 1) := by decide +kernel
theorem d_LW_law_542 : decode code 542 = .ok (.invokevirtual 57, 3) := by decide +kernel
theorem d_LW_law_545 : decode code 545 = .ok (.iload 5, 2) := by decide +kernel
theorem d_LW_law_547 : decode code 547 = .ok (.if_icmp .eq 5, 3) := by decide +kernel
theorem d_LW_law_550 : decode code 550 = .ok (.iconst 0, 1) := by decide +kernel
theorem d_LW_law_551 : decode code 551 = .ok (.ireturn, 1) := by decide +kernel
theorem d_LW_law_552 : decode code 552 = .ok (.iload 5, 2) := by decide +kernel
theorem d_LW_law_554 : decode code 554 = .ok (.ifCond .ne 22, 3) := by decide +kernel
theorem d_LW_law_557 : decode code 557 = .ok (.aload_n 3, 1) := by decide +kernel
theorem d_LW_law_558 : decode code 558 = .ok (.iconst 0, 1) := by decide +kernel
theorem d_LW_law_559 : decode code 559 = .ok (.laload, 1) := by decide +kernel
theorem d_LW_law_560 : decode code 560 = .ok (.iload 6, 2) := by decide +kernel
theorem d_LW_law_562 : decode code 562 = .ok (.ifCond .eq 7, 3) := by decide +kernel
theorem d_LW_law_565 : decode code 565 = .ok (.lconst 1, 1) := by decide +kernel
theorem d_LW_law_566 : decode code 566 = .ok (.goto 4, 3) := by decide +kernel
theorem d_LW_law_569 : decode code 569 = .ok (.lconst 0, 1) := by decide +kernel
theorem d_LW_law_570 : decode code 570 = .ok (.lcmp, 1) := by decide +kernel
theorem d_LW_law_571 : decode code 571 = .ok (.ifCond .eq 5, 3) := by decide +kernel
theorem d_LW_law_574 : decode code 574 = .ok (.iconst 0, 1) := by decide +kernel
theorem d_LW_law_575 : decode code 575 = .ok (.ireturn, 1) := by decide +kernel
theorem d_LW_law_576 : decode code 576 = .ok (.goto 59, 3) := by decide +kernel
theorem d_LW_law_579 : decode code 579 = .ok (.aload_n 1, 1) := by decide +kernel
theorem d_LW_law_580 : decode code 580 = .ok (.aload_n 0, 1) := by decide +kernel
theorem d_LW_law_581 : decode code 581 = .ok (.iload 4, 2) := by decide +kernel
theorem d_LW_law_583 : decode code 583 = .ok (.iconst 1, 1) := by decide +kernel
theorem d_LW_law_584 : decode code 584 = .ok (.iadd, 1) := by decide +kernel
theorem d_LW_law_585 : decode code 585 = .ok (.iaload, 1) := by decide +kernel
theorem d_LW_law_586 : decode code 586 = .ok (.aload_n 3, 1) := by decide +kernel
theorem d_LW_law_587 : decode code 587 = .ok (.invokestatic 81, 3) := by decide +kernel
theorem d_LW_law_590 : decode code 590 = .ok (.istore 5, 2) := by decide +kernel
theorem d_LW_law_592 : decode code 592 = .ok (.aload_n 2, 1) := by decide +kernel
theorem d_LW_law_593 : decode code 593 = .ok (.aload_n 0, 1) := by decide +kernel
theorem d_LW_law_594 : decode code 594 = .ok (.iload 4, 2) := by decide +kernel
theorem d_LW_law_596 : decode code 596 = .ok (.iconst 1, 1) := by decide +kernel
theorem d_LW_law_597 : decode code 597 = .ok (.iadd, 1) := by decide +kernel
theorem d_LW_law_598 : decode code 598 = .ok (.iaload, 1) := by decide +kernel
theorem d_LW_law_599 : decode code 599 = .ok (.invokevirtual 84, 3) := by decide +kernel
theorem d_LW_law_602 : decode code 602 = .ok (.istore 6, 2) := by decide +kernel
theorem d_LW_law_604 : decode code 604 = .ok (.aload_n 2, 1) := by decide +kernel
theorem d_LW_law_605 : decode code 605 = .ok (.invokevirtual 57, 3) := by decide +kernel
theorem d_LW_law_608 : decode code 608 = .ok (.iload 5, 2) := by decide +kernel
theorem d_LW_law_610 : decode code 610 = .ok (.if_icmp .eq 5, 3) := by decide +kernel
theorem d_LW_law_613 : decode code 613 = .ok (.iconst 0, 1) := by decide +kernel
theorem d_LW_law_614 : decode code 614 = .ok (.ireturn, 1) := by decide +kernel
theorem d_LW_law_615 : decode code 615 = .ok (.iload 5, 2) := by decide +kernel
theorem d_LW_law_617 : decode code 617 = .ok (.ifCond .ne 15, 3) := by decide +kernel
theorem d_LW_law_620 : decode code 620 = .ok (.aload_n 3, 1) := by decide +kernel
theorem d_LW_law_621 : decode code 621 = .ok (.iconst 0, 1) := by decide +kernel
theorem d_LW_law_622 : decode code 622 = .ok (.laload, 1) := by decide +kernel
theorem d_LW_law_623 : decode code 623 = .ok (.iload 6, 2) := by decide +kernel
theorem d_LW_law_625 : decode code 625 = .ok (.i2l, 1) := by decide +kernel
theorem d_LW_law_626 : decode code 626 = .ok (.lcmp, 1) := by decide +kernel
theorem d_LW_law_627 : decode code 627 = .ok (.ifCond .eq 5, 3) := by decide +kernel
theorem d_LW_law_630 : decode code 630 = .ok (.iconst 0, 1) := by decide +kernel
theorem d_LW_law_631 : decode code 631 = .ok (.ireturn, 1) := by decide +kernel
theorem d_LW_law_632 : decode code 632 = .ok (.goto 3, 3) := by decide +kernel
theorem d_LW_law_635 : decode code 635 = .ok (.iinc 4 6, 3) := by decide +kernel
theorem d_LW_law_638 : decode code 638 = .ok (.goto (-615), 3) := by decide +kernel
theorem d_LW_law_641 : decode code 641 = .ok (.iconst 1, 1) := by decide +kernel
theorem d_LW_law_642 : decode code 642 = .ok (.ireturn, 1) := by decide +kernel
end
section
/-! the law: what its loop keeps; the script -/
def R_law : String := "StorageCostsLaw"
def lw_A (s : State) : Nat → Prop := fun q => s.heap.size ≤ q
def lw_St (G : sx_G) (ad md : Nat → Nat) (oo : Nat) (s : State) (t : Nat) (H : Heap) (locs : List Loc) : Prop :=
  ∃ (qc qb : Nat) (V F : Nat → Int64) (T L : Nat → Int32) (tc n : Nat) (CH : Nat → Int32) (BE : Nat → Int64) (cd : Nat) (rf : Int32) (C1 C2 C3 : Nat → Int32) (dp : Nat) (f : Nat → Int64) (fl : Int32) (KR : Nat → Int32) (K : Nat → Nat → Int64) (KT : Nat → Nat → Int32), p_inv V T L tc n CH BE cd C1 C2 C3 dp KR K KT ∧ 0 < n ∧ n ≤ 64 + 2 * t ∧ cd ≤ t ∧
    va_P G.1 sx_cls (wSC G ad qc qb V F T L tc n CH BE cd rf C1 C2 C3 dp ++ (wO G oo f ++ wMF G md fl V F T rf dp KR K KT)) H ∧ va_D (lw_A s) (wSC G ad qc qb V F T L tc n CH BE cd rf C1 C2 C3 dp ++ (wO G oo f ++ wMF G md fl V F T rf dp KR K KT)) ∧ va_S (lw_A s) s.heap H locs
theorem sx_cl : Jvm.Cond.constantLong sx_LW 68 4294967295 ∈ lw_tbl := sx_tb (i := 371) rfl
theorem p_nz {v : Int32} (h : v = 0 ∨ v = 1) : narrow .boolean (.int v) = .int v := by rcases h with rfl | rfl <;> rfl
theorem p_vz {v : Int32} (h : v = 0 ∨ v = 1) : vp_nar .boolean v = v := by rcases h with rfl | rfl <;> decide +kernel
section SLD
variable {p : Program} {l : Launch} {e : Env} {R : Room} {s : State} {m : MethodId} {args : Array Value} {below : List Frame} {meth : Method} {c : Code} {H : Heap} {locs : List Loc} {cells slots : Nat} {Q : State → Prop} {cc : ByteArray} {nL : Nat} {own : String} {G : sx_G} {pc : Nat} {ls : Array Slot} {rest : List Value} {A : Nat → Prop}
theorem sx_sld (C0 : sx_C p s m c cc nL own G) {b LN k : Nat} {xs : Nat → Int32} (hX : va_X b LN xs s s.heap) (hbl : b < s.heap.size) (hbA : ¬ A b) (hS : va_S A s.heap H locs) (hk : k < LN) (hLN : LN < 2 ^ 31) {x : Int32} (hx : x = nI k) (hdg : decode cc pc = .ok (.iaload, 1))
    (kk : W p l e R s m args below meth c H locs cells slots Q (F0 m (pc + 1) ls (.int (xs k) :: rest))) : W p l e R s m args below meth c H locs cells slots Q (F0 m pc ls (.int x :: .ref b :: rest)) := by
  subst hx
  refine va_sld C0.1 C0.2.1 hX hbl hbA hS (vp_in_nI hk hLN) hdg ?_
  rw [nI_clamp (by omega)]; exact kk
end SLD
end
section
/-! the law: begin, open, close -/
section SO1
variable {p : Program} {l : Launch} {e : Env} {s : State} {m : MethodId} {args : Array Value} {below : List Frame} {meth : Method} {c : Code} {H : Heap} {locs : List Loc} {Q : State → Prop} {G : sx_G} {ls : Array Slot} {ad md : Nat → Nat} {oo b LN t : Nat} {xs : Nat → Int32}
set_option maxRecDepth 20000 in
theorem law_op0 (C0 : sx_C p s m c code 8 sx_LW G) (hfl : l.flags = flags0) (hTS : sx_TS s) (hX : va_X b LN xs s s.heap) (hbl : b < s.heap.size) (hLN : LN ≤ 3072) (ht : 6 * t + 6 ≤ LN) (hSt : lw_St G ad md oo s t H locs) (hl : lv_has ls 8 [(4, .int (nI (6 * t))), (3, .ref oo), (2, .ref (md 0)), (1, .ref (ad 0)), (0, .ref b)])
    (kk : ∀ (ls : Array Slot) (H : Heap) (locs : List Loc), lw_St G ad md oo s (t + 1) H locs → lv_has ls 8 [(4, .int (nI (6 * t))), (3, .ref oo), (2, .ref (md 0)), (1, .ref (ad 0)), (0, .ref b)] → W p l e room_1 s m args below meth c H locs (200 + 3 * (t + 1)) (20000 + 5000 * (t + 1)) Q (F0 m 635 ls [])) :
    W p l e room_1 s m args below meth c H locs (200 + 3 * t) (20000 + 5000 * t) Q (F0 m 88 ls []) := by
  have hx := C0.1
  have hb := C0.2.1
  have hA : ∀ q, s.heap.size ≤ q → lw_A s q := fun _ h => h
  obtain ⟨qc, qb, V, F, T, L, tc, n, CH, BE, cd, rf, C1, C2, C3, dp, f, fl, KR, K, KT, hinv, hn0, hn, hcd, hP, hD, hS⟩ := hSt
  have htc : tc ≤ 256 := p_tl_le hinv.1
  have hdp : dp ≤ 30 := hinv.2.2.2.1
  have hcn : cd ≤ n := hinv.2.2.1
  have hz : ∀ j, T j = 0 ∨ T j = 1 := p_tl_bool hinv.1
  refine lv_aload_n hx hb d_LW_law_88 rfl (lv_at hl 3 rfl) ?_
  refine sx_cV (As := []) (rest := []) (wa := []) (wb := ((wO G oo f) ++ (wMF G md fl V F T rf dp KR K KT))) (k0 := 0) C0 (c_SC_begin hcn (by omega) htc hinv.2.1 (p_tl_ix hinv.1)) q_LW_47 i_SC_begin ⟨Nat.le_of_ble_eq_true rfl, Nat.le_of_ble_eq_true rfl⟩ rfl rfl rfl hP hD hS hA hl.1 rfl (Nat.le_of_ble_eq_true rfl) d_LW_law_89 ⟨(show 200 + 3 * t + 0 ≤ 601024 by omega), (show 20000 + 5000 * t + 0 ≤ 7293034 by omega)⟩ (fun r H locs hq hj hS => ?_)
  obtain ⟨rfl, hP1, hD1⟩ := hq
  obtain ⟨hP, hD⟩ := hj _ hP1 hD1
  have hP : va_P G.1 sx_cls ((wSC G ad qc qb V V (p_unt L 0 tc T) L 0 n CH BE 0 0 C1 C2 C3 0) ++ ((wO G oo f) ++ (wMF G md fl V F T rf dp KR K KT))) H := hP
  have hD : va_D (lw_A s) ((wSC G ad qc qb V V (p_unt L 0 tc T) L 0 n CH BE 0 0 C1 C2 C3 0) ++ ((wO G oo f) ++ (wMF G md fl V F T rf dp KR K KT))) := hD
  refine W.widen (k := 200 + 3 * (t + 1)) (n := 20000 + 5000 * (t + 1)) (show 200 + 3 * t + 0 ≤ 200 + 3 * (t + 1) by omega) (show 20000 + 5000 * t + 0 ≤ 20000 + 5000 * (t + 1) by omega) ?_
  refine lv_aload_n hx hb d_LW_law_92 rfl (lv_at hl 2 rfl) ?_
  refine sx_cV (As := []) (rest := [.int (nI (p_cnL V 256))]) (wa := ((wSC G ad qc qb V V (p_unt L 0 tc T) L 0 n CH BE 0 0 C1 C2 C3 0) ++ (wO G oo f))) (wb := (wMg G md KR ++ wMr G md K KT)) (k0 := 0) C0 c_MD_begin q_LW_50 i_MD_begin ⟨Nat.le_of_ble_eq_true rfl, Nat.le_of_ble_eq_true rfl⟩ rfl rfl rfl hP hD hS hA hl.1 rfl (Nat.le_of_ble_eq_true rfl) d_LW_law_93 ⟨(show 200 + 3 * (t + 1) + 0 ≤ 601024 by omega), (show 20000 + 5000 * (t + 1) + 0 ≤ 7293034 by omega)⟩ (fun r H locs hq hj hS => ?_)
  obtain ⟨rfl, hP1, hD1⟩ := hq
  obtain ⟨hP, hD⟩ := hj _ hP1 hD1
  have hP : va_P G.1 sx_cls ((wSC G ad qc qb V V (p_unt L 0 tc T) L 0 n CH BE 0 0 C1 C2 C3 0) ++ ((wO G oo f) ++ (wMF G md 0 V V (fun _ => 0) 0 0 KR K KT))) H := hP
  have hD : va_D (lw_A s) ((wSC G ad qc qb V V (p_unt L 0 tc T) L 0 n CH BE 0 0 C1 C2 C3 0) ++ ((wO G oo f) ++ (wMF G md 0 V V (fun _ => 0) 0 0 KR K KT))) := hD
  refine W.widen (k := 200 + 3 * (t + 1)) (n := 20000 + 5000 * (t + 1)) (Nat.le_refl _) (Nat.le_refl _) ?_
  refine lv_icmp_eq (tgt := 635) hx hb d_LW_law_96 (by decide) (fun _ => ?_) (fun z => absurd (rfl) z)
  rw [p_tl_none hinv.1] at hP hD
  have hP : va_P G.1 sx_cls ((wSC G ad qc qb V V (fun _ => 0) L 0 n CH BE 0 0 C1 C2 C3 0) ++ ((wO G oo f) ++ (wMF G md 0 V V (fun _ => 0) 0 0 KR K KT))) H := hP
  have hD : va_D (lw_A s) ((wSC G ad qc qb V V (fun _ => 0) L 0 n CH BE 0 0 C1 C2 C3 0) ++ ((wO G oo f) ++ (wMF G md 0 V V (fun _ => 0) 0 0 KR K KT))) := hD
  exact kk ls H locs ⟨_, _, _, _, _, _, _, _, _, _, _, _, _, _, _, _, _, _, _, _, _, p_inv_start, hn0, (by omega), (by omega), hP, hD, hS⟩ (lv_sub hl [0, 1, 2, 3, 4] rfl)
set_option maxRecDepth 20000 in
theorem law_op1 (C0 : sx_C p s m c code 8 sx_LW G) (hfl : l.flags = flags0) (hTS : sx_TS s) (hX : va_X b LN xs s s.heap) (hbl : b < s.heap.size) (hLN : LN ≤ 3072) (ht : 6 * t + 6 ≤ LN) (hSt : lw_St G ad md oo s t H locs) (hl : lv_has ls 8 [(4, .int (nI (6 * t))), (3, .ref oo), (2, .ref (md 0)), (1, .ref (ad 0)), (0, .ref b)])
    (kk : ∀ (ls : Array Slot) (H : Heap) (locs : List Loc), lw_St G ad md oo s (t + 1) H locs → lv_has ls 8 [(4, .int (nI (6 * t))), (3, .ref oo), (2, .ref (md 0)), (1, .ref (ad 0)), (0, .ref b)] → W p l e room_1 s m args below meth c H locs (200 + 3 * (t + 1)) (20000 + 5000 * (t + 1)) Q (F0 m 635 ls [])) :
    W p l e room_1 s m args below meth c H locs (200 + 3 * t) (20000 + 5000 * t) Q (F0 m 101 ls []) := by
  have hx := C0.1
  have hb := C0.2.1
  have hA : ∀ q, s.heap.size ≤ q → lw_A s q := fun _ h => h
  obtain ⟨qc, qb, V, F, T, L, tc, n, CH, BE, cd, rf, C1, C2, C3, dp, f, fl, KR, K, KT, hinv, hn0, hn, hcd, hP, hD, hS⟩ := hSt
  have htc : tc ≤ 256 := p_tl_le hinv.1
  have hdp : dp ≤ 30 := hinv.2.2.2.1
  have hcn : cd ≤ n := hinv.2.2.1
  have hz : ∀ j, T j = 0 ∨ T j = 1 := p_tl_bool hinv.1
  by_cases hd : dp < 30
  · skip
    refine lv_aload_n hx hb d_LW_law_101 rfl (lv_at hl 3 rfl) ?_
    refine lv_aload_n hx hb d_LW_law_102 rfl (lv_at hl 1 rfl) ?_
    refine sx_cSW (B := (fun _ => True)) (As := [.ref (ad 0), .ref oo]) (rest := []) (wa := []) (wc := ((wSC G ad qc qb V F T L tc n CH BE cd rf C1 C2 C3 dp) ++ (wO G oo f))) (wb := (wMF G md fl V F T rf dp KR K KT)) C0 (c_LW_open hd) (fun _ _ _ _ _ => trivial) q_LW_51 i_LW_open ⟨Nat.le_of_ble_eq_true rfl, Nat.le_of_ble_eq_true rfl⟩ rfl hP hD hS hA (fun _ _ _ => trivial) hl.1 rfl (Nat.zero_le _) d_LW_law_103 ⟨(show 200 + 3 * t + 0 ≤ 601024 by omega), (show 20000 + 5000 * t + 0 ≤ 7293034 by omega)⟩ (fun r H locs hq hj hS => ?_)
    obtain ⟨rfl, hP1, hD1⟩ := hq
    obtain ⟨hP, hD⟩ := hj _ hP1 hD1
    have hP : va_P G.1 sx_cls ((wSC G ad qc qb V F T L tc n CH BE cd rf (upd C1 dp (nI cd)) (upd C2 dp (nI tc)) (upd C3 dp rf) (dp + 1)) ++ ((wO G oo (fun _ => (nI (dp + 1)).toInt64)) ++ (wMF G md fl V F T rf dp KR K KT))) H := hP
    have hD : va_D (lw_A s) ((wSC G ad qc qb V F T L tc n CH BE cd rf (upd C1 dp (nI cd)) (upd C2 dp (nI tc)) (upd C3 dp rf) (dp + 1)) ++ ((wO G oo (fun _ => (nI (dp + 1)).toInt64)) ++ (wMF G md fl V F T rf dp KR K KT))) := hD
    refine W.widen (k := 200 + 3 * (t + 1)) (n := 20000 + 5000 * (t + 1)) (show 200 + 3 * t + 0 ≤ 200 + 3 * (t + 1) by omega) (show 20000 + 5000 * t + 0 ≤ 20000 + 5000 * (t + 1) by omega) ?_
    refine lv_istore hx hb d_LW_law_106 hl (by decide) rfl (fun ls hl => ?_)
    have hl : lv_has ls 8 [(5, .int 0), (4, .int (nI (6 * t))), (3, .ref oo), (2, .ref (md 0)), (1, .ref (ad 0)), (0, .ref b)] := hl
    refine lv_aload_n hx hb d_LW_law_108 rfl (lv_at hl 3 rfl) ?_
    refine sx_cV (As := []) (rest := []) (wa := ((wSC G ad qc qb V F T L tc n CH BE cd rf (upd C1 dp (nI cd)) (upd C2 dp (nI tc)) (upd C3 dp rf) (dp + 1)) ++ (wO G oo (fun _ => (nI (dp + 1)).toInt64)))) (wb := []) (k0 := 0) C0 (c_MD_open0 hd (fun i _ => p_vz (hz i))) q_LW_56 i_MD_open ⟨Nat.le_of_ble_eq_true rfl, Nat.le_of_ble_eq_true rfl⟩ rfl rfl rfl hP hD hS hA hl.1 rfl (Nat.le_of_ble_eq_true rfl) d_LW_law_109 ⟨(show 200 + 3 * (t + 1) + 0 ≤ 601024 by omega), (show 20000 + 5000 * (t + 1) + 0 ≤ 7293034 by omega)⟩ (fun r H locs hq hj hS => ?_)
    obtain ⟨rfl, hP1, hD1⟩ := hq
    obtain ⟨hP, hD⟩ := hj _ hP1 hD1
    have hP : va_P G.1 sx_cls ((wSC G ad qc qb V F T L tc n CH BE cd rf (upd C1 dp (nI cd)) (upd C2 dp (nI tc)) (upd C3 dp rf) (dp + 1)) ++ ((wO G oo (fun _ => (nI (dp + 1)).toInt64)) ++ (wMF G md 0 V F T rf (dp + 1) (upd KR (dp + 1) rf) (va_up K (dp + 1) V) (va_up KT (dp + 1) T)))) H := hP
    have hD : va_D (lw_A s) ((wSC G ad qc qb V F T L tc n CH BE cd rf (upd C1 dp (nI cd)) (upd C2 dp (nI tc)) (upd C3 dp rf) (dp + 1)) ++ ((wO G oo (fun _ => (nI (dp + 1)).toInt64)) ++ (wMF G md 0 V F T rf (dp + 1) (upd KR (dp + 1) rf) (va_up K (dp + 1) V) (va_up KT (dp + 1) T)))) := hD
    refine W.widen (k := 200 + 3 * (t + 1)) (n := 20000 + 5000 * (t + 1)) (Nat.le_refl _) (Nat.le_refl _) ?_
    refine lv_istore hx hb d_LW_law_112 hl (by decide) rfl (fun ls hl => ?_)
    have hl : lv_has ls 8 [(6, .int (nI (dp + 1))), (5, .int 0), (4, .int (nI (6 * t))), (3, .ref oo), (2, .ref (md 0)), (1, .ref (ad 0)), (0, .ref b)] := hl
    refine lv_aload_n hx hb d_LW_law_114 rfl (lv_at hl 4 rfl) ?_
    refine sx_cVP (As := []) (rest := []) (wc := (wM4 G md 0 V F T rf (dp + 1))) (k0 := 0) C0 c_MD_thrown q_LW_57 i_MD_thrown ⟨Nat.le_of_ble_eq_true rfl, Nat.le_of_ble_eq_true rfl⟩ rfl rfl rfl (sx_mid (wa := ((wSC G ad qc qb V F T L tc n CH BE cd rf (upd C1 dp (nI cd)) (upd C2 dp (nI tc)) (upd C3 dp rf) (dp + 1)) ++ (wO G oo (fun _ => (nI (dp + 1)).toInt64)))) (wc := (wM4 G md 0 V F T rf (dp + 1))) (wb := (wMg G md (upd KR (dp + 1) rf) ++ wMr G md (va_up K (dp + 1) V) (va_up KT (dp + 1) T))) hP) hl.1 rfl (Nat.zero_le _) d_LW_law_115 ⟨(show 200 + 3 * (t + 1) ≤ 601024 by omega), (show 20000 + 5000 * (t + 1) ≤ 7293034 by omega)⟩ ?_
    refine lv_iload hx hb d_LW_law_118 (lv_at hl 1 rfl) ?_
    refine lv_icmp_eq (tgt := 125) hx hb d_LW_law_120 (by decide) (fun _ => ?_) (fun z => absurd (rfl) z)
    refine lv_iload hx hb d_LW_law_125 (lv_at hl 1 rfl) ?_
    refine lv_if_ne (tgt := 142) hx hb d_LW_law_127 (by decide) (fun z => absurd (rfl) z) (fun _ => ?_)
    refine lv_aload_n hx hb d_LW_law_130 rfl (lv_at hl 3 rfl) ?_
    refine lv_iconst (v := 0) hx hb d_LW_law_131 (by decide) ?_
    refine sx_lald (i := 0) (v := (nI (dp + 1)).toInt64) C0 hP 11 rfl rfl (by decide) (by decide) rfl d_LW_law_132 ?_
    refine lv_iload hx hb d_LW_law_133 (lv_at hl 0 rfl) ?_
    refine lv_i2l (v := (nI (dp + 1)).toInt64) hx hb d_LW_law_135 rfl ?_
    refine sx_lifeq (tgt := 142) C0 d_LW_law_136 d_LW_law_137 (by decide) (fun _ => ?_) (fun z => absurd rfl z)
    refine lv_goto (tgt := 635) hx hb d_LW_law_142 (by decide) ?_
    exact kk ls H locs ⟨_, _, _, _, _, _, _, _, _, _, _, _, _, _, _, _, _, _, _, _, _, p_inv_open hinv hd, hn0, (by omega), (by omega), hP, hD, hS⟩ (lv_sub hl [2, 3, 4, 5, 6] rfl)
  · have hd : dp = 30 := by omega
    refine lv_aload_n hx hb d_LW_law_101 rfl (lv_at hl 3 rfl) ?_
    refine lv_aload_n hx hb d_LW_law_102 rfl (lv_at hl 1 rfl) ?_
    refine sx_cSW (B := sx_TS) (As := [.ref (ad 0), .ref oo]) (rest := []) (wa := []) (wc := ((wSC G ad qc qb V F T L tc n CH BE cd rf C1 C2 C3 dp) ++ (wO G oo f))) (wb := (wMF G md fl V F T rf dp KR K KT)) C0 (x_LW_open hfl hd) (fun U g mk a h => h.same rfl rfl) q_LW_51 i_LW_open ⟨Nat.le_of_ble_eq_true rfl, Nat.le_of_ble_eq_true rfl⟩ rfl hP hD hS hA (fun U hU hW => hTS.ext hW (fun q hq => by rw [hU]; exact hS.2.1 q hq (Nat.not_le.mpr hq))) hl.1 rfl (Nat.zero_le _) d_LW_law_103 ⟨(show 200 + 3 * t + 1 ≤ 601024 by omega), (show 20000 + 5000 * t + 6 ≤ 7293034 by omega)⟩ (fun r H locs hq hj hS => ?_)
    obtain ⟨rfl, hP1, hD1⟩ := hq
    obtain ⟨hP, hD⟩ := hj _ hP1 hD1
    have hP : va_P G.1 sx_cls ((wSC G ad qc qb V F T L tc n CH BE cd rf C1 C2 C3 dp) ++ ((wO G oo f) ++ (wMF G md fl V F T rf dp KR K KT))) H := hP
    have hD : va_D (lw_A s) ((wSC G ad qc qb V F T L tc n CH BE cd rf C1 C2 C3 dp) ++ ((wO G oo f) ++ (wMF G md fl V F T rf dp KR K KT))) := hD
    refine W.widen (k := 200 + 3 * (t + 1)) (n := 20000 + 5000 * (t + 1)) (show 200 + 3 * t + 1 ≤ 200 + 3 * (t + 1) by omega) (show 20000 + 5000 * t + 6 ≤ 20000 + 5000 * (t + 1) by omega) ?_
    refine lv_istore hx hb d_LW_law_106 hl (by decide) rfl (fun ls hl => ?_)
    have hl : lv_has ls 8 [(5, .int 1), (4, .int (nI (6 * t))), (3, .ref oo), (2, .ref (md 0)), (1, .ref (ad 0)), (0, .ref b)] := hl
    refine lv_aload_n hx hb d_LW_law_108 rfl (lv_at hl 3 rfl) ?_
    refine sx_cV (As := []) (rest := []) (wa := ((wSC G ad qc qb V F T L tc n CH BE cd rf C1 C2 C3 dp) ++ (wO G oo f))) (wb := []) (k0 := 0) C0 (c_MD_open9 hd) q_LW_56 i_MD_open ⟨Nat.le_of_ble_eq_true rfl, Nat.le_of_ble_eq_true rfl⟩ rfl rfl rfl hP hD hS hA hl.1 rfl (Nat.le_of_ble_eq_true rfl) d_LW_law_109 ⟨(show 200 + 3 * (t + 1) + 0 ≤ 601024 by omega), (show 20000 + 5000 * (t + 1) + 0 ≤ 7293034 by omega)⟩ (fun r H locs hq hj hS => ?_)
    obtain ⟨rfl, hP1, hD1⟩ := hq
    obtain ⟨hP, hD⟩ := hj _ hP1 hD1
    have hP : va_P G.1 sx_cls ((wSC G ad qc qb V F T L tc n CH BE cd rf C1 C2 C3 dp) ++ ((wO G oo f) ++ (wMF G md 1 V F T rf dp KR K KT))) H := hP
    have hD : va_D (lw_A s) ((wSC G ad qc qb V F T L tc n CH BE cd rf C1 C2 C3 dp) ++ ((wO G oo f) ++ (wMF G md 1 V F T rf dp KR K KT))) := hD
    refine W.widen (k := 200 + 3 * (t + 1)) (n := 20000 + 5000 * (t + 1)) (Nat.le_refl _) (Nat.le_refl _) ?_
    refine lv_istore hx hb d_LW_law_112 hl (by decide) rfl (fun ls hl => ?_)
    have hl : lv_has ls 8 [(6, .int 0), (5, .int 1), (4, .int (nI (6 * t))), (3, .ref oo), (2, .ref (md 0)), (1, .ref (ad 0)), (0, .ref b)] := hl
    refine lv_aload_n hx hb d_LW_law_114 rfl (lv_at hl 4 rfl) ?_
    refine sx_cVP (As := []) (rest := []) (wc := (wM4 G md 1 V F T rf dp)) (k0 := 0) C0 c_MD_thrown q_LW_57 i_MD_thrown ⟨Nat.le_of_ble_eq_true rfl, Nat.le_of_ble_eq_true rfl⟩ rfl rfl rfl (sx_mid (wa := ((wSC G ad qc qb V F T L tc n CH BE cd rf C1 C2 C3 dp) ++ (wO G oo f))) (wc := (wM4 G md 1 V F T rf dp)) (wb := (wMg G md KR ++ wMr G md K KT)) hP) hl.1 rfl (Nat.zero_le _) d_LW_law_115 ⟨(show 200 + 3 * (t + 1) ≤ 601024 by omega), (show 20000 + 5000 * (t + 1) ≤ 7293034 by omega)⟩ ?_
    refine lv_iload hx hb d_LW_law_118 (lv_at hl 1 rfl) ?_
    refine lv_icmp_eq (tgt := 125) hx hb d_LW_law_120 (by decide) (fun _ => ?_) (fun z => absurd (rfl) z)
    refine lv_iload hx hb d_LW_law_125 (lv_at hl 1 rfl) ?_
    refine lv_if_ne (tgt := 142) hx hb d_LW_law_127 (by decide) (fun _ => ?_) (fun z => absurd z ((by decide)))
    refine lv_goto (tgt := 635) hx hb d_LW_law_142 (by decide) ?_
    exact kk ls H locs ⟨_, _, _, _, _, _, _, _, _, _, _, _, _, _, _, _, _, _, _, _, _, hinv, hn0, (by omega), (by omega), hP, hD, hS⟩ (lv_sub hl [2, 3, 4, 5, 6] rfl)
set_option maxRecDepth 20000 in
theorem law_op2 (C0 : sx_C p s m c code 8 sx_LW G) (hfl : l.flags = flags0) (hTS : sx_TS s) (hX : va_X b LN xs s s.heap) (hbl : b < s.heap.size) (hLN : LN ≤ 3072) (ht : 6 * t + 6 ≤ LN) (hSt : lw_St G ad md oo s t H locs) (hl : lv_has ls 8 [(4, .int (nI (6 * t))), (3, .ref oo), (2, .ref (md 0)), (1, .ref (ad 0)), (0, .ref b)])
    (kk : ∀ (ls : Array Slot) (H : Heap) (locs : List Loc), lw_St G ad md oo s (t + 1) H locs → lv_has ls 8 [(4, .int (nI (6 * t))), (3, .ref oo), (2, .ref (md 0)), (1, .ref (ad 0)), (0, .ref b)] → W p l e room_1 s m args below meth c H locs (200 + 3 * (t + 1)) (20000 + 5000 * (t + 1)) Q (F0 m 635 ls [])) :
    W p l e room_1 s m args below meth c H locs (200 + 3 * t) (20000 + 5000 * t) Q (F0 m 145 ls []) := by
  have hx := C0.1
  have hb := C0.2.1
  have hA : ∀ q, s.heap.size ≤ q → lw_A s q := fun _ h => h
  obtain ⟨qc, qb, V, F, T, L, tc, n, CH, BE, cd, rf, C1, C2, C3, dp, f, fl, KR, K, KT, hinv, hn0, hn, hcd, hP, hD, hS⟩ := hSt
  have htc : tc ≤ 256 := p_tl_le hinv.1
  have hdp : dp ≤ 30 := hinv.2.2.2.1
  have hcn : cd ≤ n := hinv.2.2.1
  have hz : ∀ j, T j = 0 ∨ T j = 1 := p_tl_bool hinv.1
  rcases Nat.eq_zero_or_pos dp with hd | hd
  · by_cases hs : xs (6 * t + 1) = 0
    · skip
      refine lv_aload_n hx hb d_LW_law_145 rfl (lv_at hl 3 rfl) ?_
      refine lv_aload_n hx hb d_LW_law_146 rfl (lv_at hl 4 rfl) ?_
      refine lv_iload hx hb d_LW_law_147 (lv_at hl 0 rfl) ?_
      refine lv_iconst (v := nI 1) hx hb d_LW_law_149 (by decide +kernel) ?_
      refine lv_iadd hx hb d_LW_law_150 ?_
      refine sx_topi (y := nI (6 * t + 1)) (nI_add _ _) ?_
      refine sx_sld (k := 6 * t + 1) C0 hX hbl (Nat.not_le.mpr hbl) hS (by omega) (by omega) rfl d_LW_law_151 ?_
      refine lv_if_eq (tgt := 159) hx hb d_LW_law_152 (by decide) (fun _ => ?_) (fun z => absurd (hs) z)
      refine lv_iconst (v := 0) hx hb d_LW_law_159 (by decide) ?_
      refine lv_aload_n hx hb d_LW_law_160 rfl (lv_at hl 1 rfl) ?_
      refine sx_cSW (B := sx_TS) (As := [.ref (ad 0), .int 0, .ref oo]) (rest := []) (wa := []) (wc := ((wSC G ad qc qb V F T L tc n CH BE cd rf C1 C2 C3 dp) ++ (wO G oo f))) (wb := (wMF G md fl V F T rf dp KR K KT)) C0 (x_LW_close hfl hd) (fun U g mk a h => h.same rfl rfl) q_LW_60 i_LW_close ⟨Nat.le_of_ble_eq_true rfl, Nat.le_of_ble_eq_true rfl⟩ rfl hP hD hS hA (fun U hU hW => hTS.ext hW (fun q hq => by rw [hU]; exact hS.2.1 q hq (Nat.not_le.mpr hq))) hl.1 rfl (Nat.zero_le _) d_LW_law_161 ⟨(show 200 + 3 * t + 1 ≤ 601024 by omega), (show 20000 + 5000 * t + 6 ≤ 7293034 by omega)⟩ (fun r H locs hq hj hS => ?_)
      obtain ⟨rfl, hP1, hD1⟩ := hq
      obtain ⟨hP, hD⟩ := hj _ hP1 hD1
      have hP : va_P G.1 sx_cls ((wSC G ad qc qb V F T L tc n CH BE cd rf C1 C2 C3 dp) ++ ((wO G oo f) ++ (wMF G md fl V F T rf dp KR K KT))) H := hP
      have hD : va_D (lw_A s) ((wSC G ad qc qb V F T L tc n CH BE cd rf C1 C2 C3 dp) ++ ((wO G oo f) ++ (wMF G md fl V F T rf dp KR K KT))) := hD
      refine W.widen (k := 200 + 3 * (t + 1)) (n := 20000 + 5000 * (t + 1)) (show 200 + 3 * t + 1 ≤ 200 + 3 * (t + 1) by omega) (show 20000 + 5000 * t + 6 ≤ 20000 + 5000 * (t + 1) by omega) ?_
      refine lv_istore hx hb d_LW_law_164 hl (by decide) rfl (fun ls hl => ?_)
      have hl : lv_has ls 8 [(5, .int 1), (4, .int (nI (6 * t))), (3, .ref oo), (2, .ref (md 0)), (1, .ref (ad 0)), (0, .ref b)] := hl
      refine lv_aload_n hx hb d_LW_law_166 rfl (lv_at hl 3 rfl) ?_
      refine lv_aload_n hx hb d_LW_law_167 rfl (lv_at hl 5 rfl) ?_
      refine lv_iload hx hb d_LW_law_168 (lv_at hl 1 rfl) ?_
      refine lv_iconst (v := nI 1) hx hb d_LW_law_170 (by decide +kernel) ?_
      refine lv_iadd hx hb d_LW_law_171 ?_
      refine sx_topi (y := nI (6 * t + 1)) (nI_add _ _) ?_
      refine sx_sld (k := 6 * t + 1) C0 hX hbl (Nat.not_le.mpr hbl) hS (by omega) (by omega) rfl d_LW_law_172 ?_
      refine lv_if_eq (tgt := 180) hx hb d_LW_law_173 (by decide) (fun _ => ?_) (fun z => absurd (hs) z)
      refine lv_iconst (v := 0) hx hb d_LW_law_180 (by decide) ?_
      refine sx_cV (As := [.int 0]) (rest := []) (wa := ((wSC G ad qc qb V F T L tc n CH BE cd rf C1 C2 C3 dp) ++ (wO G oo f))) (wb := []) (k0 := 0) C0 (c_MD_close9 hd) q_LW_63 i_MD_close ⟨Nat.le_of_ble_eq_true rfl, Nat.le_of_ble_eq_true rfl⟩ rfl rfl rfl hP hD hS hA hl.1 rfl (Nat.le_of_ble_eq_true rfl) d_LW_law_181 ⟨(show 200 + 3 * (t + 1) + 0 ≤ 601024 by omega), (show 20000 + 5000 * (t + 1) + 0 ≤ 7293034 by omega)⟩ (fun r H locs hq hj hS => ?_)
      obtain ⟨rfl, hP1, hD1⟩ := hq
      obtain ⟨hP, hD⟩ := hj _ hP1 hD1
      have hP : va_P G.1 sx_cls ((wSC G ad qc qb V F T L tc n CH BE cd rf C1 C2 C3 dp) ++ ((wO G oo f) ++ (wMF G md 1 V F T rf dp KR K KT))) H := hP
      have hD : va_D (lw_A s) ((wSC G ad qc qb V F T L tc n CH BE cd rf C1 C2 C3 dp) ++ ((wO G oo f) ++ (wMF G md 1 V F T rf dp KR K KT))) := hD
      refine W.widen (k := 200 + 3 * (t + 1)) (n := 20000 + 5000 * (t + 1)) (Nat.le_refl _) (Nat.le_refl _) ?_
      refine lv_istore hx hb d_LW_law_184 hl (by decide) rfl (fun ls hl => ?_)
      have hl : lv_has ls 8 [(6, .int 0), (5, .int 1), (4, .int (nI (6 * t))), (3, .ref oo), (2, .ref (md 0)), (1, .ref (ad 0)), (0, .ref b)] := hl
      refine lv_aload_n hx hb d_LW_law_186 rfl (lv_at hl 4 rfl) ?_
      refine sx_cVP (As := []) (rest := []) (wc := (wM4 G md 1 V F T rf dp)) (k0 := 0) C0 c_MD_thrown q_LW_57 i_MD_thrown ⟨Nat.le_of_ble_eq_true rfl, Nat.le_of_ble_eq_true rfl⟩ rfl rfl rfl (sx_mid (wa := ((wSC G ad qc qb V F T L tc n CH BE cd rf C1 C2 C3 dp) ++ (wO G oo f))) (wc := (wM4 G md 1 V F T rf dp)) (wb := (wMg G md KR ++ wMr G md K KT)) hP) hl.1 rfl (Nat.zero_le _) d_LW_law_187 ⟨(show 200 + 3 * (t + 1) ≤ 601024 by omega), (show 20000 + 5000 * (t + 1) ≤ 7293034 by omega)⟩ ?_
      refine lv_iload hx hb d_LW_law_190 (lv_at hl 1 rfl) ?_
      refine lv_icmp_eq (tgt := 197) hx hb d_LW_law_192 (by decide) (fun _ => ?_) (fun z => absurd (rfl) z)
      refine lv_iload hx hb d_LW_law_197 (lv_at hl 1 rfl) ?_
      refine lv_if_ne (tgt := 214) hx hb d_LW_law_199 (by decide) (fun _ => ?_) (fun z => absurd z ((by decide)))
      refine lv_goto (tgt := 635) hx hb d_LW_law_214 (by decide) ?_
      exact kk ls H locs ⟨_, _, _, _, _, _, _, _, _, _, _, _, _, _, _, _, _, _, _, _, _, hinv, hn0, (by omega), (by omega), hP, hD, hS⟩ (lv_sub hl [2, 3, 4, 5, 6] rfl)
    · skip
      refine lv_aload_n hx hb d_LW_law_145 rfl (lv_at hl 3 rfl) ?_
      refine lv_aload_n hx hb d_LW_law_146 rfl (lv_at hl 4 rfl) ?_
      refine lv_iload hx hb d_LW_law_147 (lv_at hl 0 rfl) ?_
      refine lv_iconst (v := nI 1) hx hb d_LW_law_149 (by decide +kernel) ?_
      refine lv_iadd hx hb d_LW_law_150 ?_
      refine sx_topi (y := nI (6 * t + 1)) (nI_add _ _) ?_
      refine sx_sld (k := 6 * t + 1) C0 hX hbl (Nat.not_le.mpr hbl) hS (by omega) (by omega) rfl d_LW_law_151 ?_
      refine lv_if_eq (tgt := 159) hx hb d_LW_law_152 (by decide) (fun z => absurd z (hs)) (fun _ => ?_)
      refine lv_iconst (v := 1) hx hb d_LW_law_155 (by decide) ?_
      refine lv_goto (tgt := 160) hx hb d_LW_law_156 (by decide) ?_
      refine lv_aload_n hx hb d_LW_law_160 rfl (lv_at hl 1 rfl) ?_
      refine sx_cSW (B := sx_TS) (As := [.ref (ad 0), .int 1, .ref oo]) (rest := []) (wa := []) (wc := ((wSC G ad qc qb V F T L tc n CH BE cd rf C1 C2 C3 dp) ++ (wO G oo f))) (wb := (wMF G md fl V F T rf dp KR K KT)) C0 (x_LW_close hfl hd) (fun U g mk a h => h.same rfl rfl) q_LW_60 i_LW_close ⟨Nat.le_of_ble_eq_true rfl, Nat.le_of_ble_eq_true rfl⟩ rfl hP hD hS hA (fun U hU hW => hTS.ext hW (fun q hq => by rw [hU]; exact hS.2.1 q hq (Nat.not_le.mpr hq))) hl.1 rfl (Nat.zero_le _) d_LW_law_161 ⟨(show 200 + 3 * t + 1 ≤ 601024 by omega), (show 20000 + 5000 * t + 6 ≤ 7293034 by omega)⟩ (fun r H locs hq hj hS => ?_)
      obtain ⟨rfl, hP1, hD1⟩ := hq
      obtain ⟨hP, hD⟩ := hj _ hP1 hD1
      have hP : va_P G.1 sx_cls ((wSC G ad qc qb V F T L tc n CH BE cd rf C1 C2 C3 dp) ++ ((wO G oo f) ++ (wMF G md fl V F T rf dp KR K KT))) H := hP
      have hD : va_D (lw_A s) ((wSC G ad qc qb V F T L tc n CH BE cd rf C1 C2 C3 dp) ++ ((wO G oo f) ++ (wMF G md fl V F T rf dp KR K KT))) := hD
      refine W.widen (k := 200 + 3 * (t + 1)) (n := 20000 + 5000 * (t + 1)) (show 200 + 3 * t + 1 ≤ 200 + 3 * (t + 1) by omega) (show 20000 + 5000 * t + 6 ≤ 20000 + 5000 * (t + 1) by omega) ?_
      refine lv_istore hx hb d_LW_law_164 hl (by decide) rfl (fun ls hl => ?_)
      have hl : lv_has ls 8 [(5, .int 1), (4, .int (nI (6 * t))), (3, .ref oo), (2, .ref (md 0)), (1, .ref (ad 0)), (0, .ref b)] := hl
      refine lv_aload_n hx hb d_LW_law_166 rfl (lv_at hl 3 rfl) ?_
      refine lv_aload_n hx hb d_LW_law_167 rfl (lv_at hl 5 rfl) ?_
      refine lv_iload hx hb d_LW_law_168 (lv_at hl 1 rfl) ?_
      refine lv_iconst (v := nI 1) hx hb d_LW_law_170 (by decide +kernel) ?_
      refine lv_iadd hx hb d_LW_law_171 ?_
      refine sx_topi (y := nI (6 * t + 1)) (nI_add _ _) ?_
      refine sx_sld (k := 6 * t + 1) C0 hX hbl (Nat.not_le.mpr hbl) hS (by omega) (by omega) rfl d_LW_law_172 ?_
      refine lv_if_eq (tgt := 180) hx hb d_LW_law_173 (by decide) (fun z => absurd z (hs)) (fun _ => ?_)
      refine lv_iconst (v := 1) hx hb d_LW_law_176 (by decide) ?_
      refine lv_goto (tgt := 181) hx hb d_LW_law_177 (by decide) ?_
      refine sx_cV (As := [.int 1]) (rest := []) (wa := ((wSC G ad qc qb V F T L tc n CH BE cd rf C1 C2 C3 dp) ++ (wO G oo f))) (wb := []) (k0 := 0) C0 (c_MD_close9 hd) q_LW_63 i_MD_close ⟨Nat.le_of_ble_eq_true rfl, Nat.le_of_ble_eq_true rfl⟩ rfl rfl rfl hP hD hS hA hl.1 rfl (Nat.le_of_ble_eq_true rfl) d_LW_law_181 ⟨(show 200 + 3 * (t + 1) + 0 ≤ 601024 by omega), (show 20000 + 5000 * (t + 1) + 0 ≤ 7293034 by omega)⟩ (fun r H locs hq hj hS => ?_)
      obtain ⟨rfl, hP1, hD1⟩ := hq
      obtain ⟨hP, hD⟩ := hj _ hP1 hD1
      have hP : va_P G.1 sx_cls ((wSC G ad qc qb V F T L tc n CH BE cd rf C1 C2 C3 dp) ++ ((wO G oo f) ++ (wMF G md 1 V F T rf dp KR K KT))) H := hP
      have hD : va_D (lw_A s) ((wSC G ad qc qb V F T L tc n CH BE cd rf C1 C2 C3 dp) ++ ((wO G oo f) ++ (wMF G md 1 V F T rf dp KR K KT))) := hD
      refine W.widen (k := 200 + 3 * (t + 1)) (n := 20000 + 5000 * (t + 1)) (Nat.le_refl _) (Nat.le_refl _) ?_
      refine lv_istore hx hb d_LW_law_184 hl (by decide) rfl (fun ls hl => ?_)
      have hl : lv_has ls 8 [(6, .int 0), (5, .int 1), (4, .int (nI (6 * t))), (3, .ref oo), (2, .ref (md 0)), (1, .ref (ad 0)), (0, .ref b)] := hl
      refine lv_aload_n hx hb d_LW_law_186 rfl (lv_at hl 4 rfl) ?_
      refine sx_cVP (As := []) (rest := []) (wc := (wM4 G md 1 V F T rf dp)) (k0 := 0) C0 c_MD_thrown q_LW_57 i_MD_thrown ⟨Nat.le_of_ble_eq_true rfl, Nat.le_of_ble_eq_true rfl⟩ rfl rfl rfl (sx_mid (wa := ((wSC G ad qc qb V F T L tc n CH BE cd rf C1 C2 C3 dp) ++ (wO G oo f))) (wc := (wM4 G md 1 V F T rf dp)) (wb := (wMg G md KR ++ wMr G md K KT)) hP) hl.1 rfl (Nat.zero_le _) d_LW_law_187 ⟨(show 200 + 3 * (t + 1) ≤ 601024 by omega), (show 20000 + 5000 * (t + 1) ≤ 7293034 by omega)⟩ ?_
      refine lv_iload hx hb d_LW_law_190 (lv_at hl 1 rfl) ?_
      refine lv_icmp_eq (tgt := 197) hx hb d_LW_law_192 (by decide) (fun _ => ?_) (fun z => absurd (rfl) z)
      refine lv_iload hx hb d_LW_law_197 (lv_at hl 1 rfl) ?_
      refine lv_if_ne (tgt := 214) hx hb d_LW_law_199 (by decide) (fun _ => ?_) (fun z => absurd z ((by decide)))
      refine lv_goto (tgt := 635) hx hb d_LW_law_214 (by decide) ?_
      exact kk ls H locs ⟨_, _, _, _, _, _, _, _, _, _, _, _, _, _, _, _, _, _, _, _, _, hinv, hn0, (by omega), (by omega), hP, hD, hS⟩ (lv_sub hl [2, 3, 4, 5, 6] rfl)
  · obtain ⟨d, rfl⟩ : ∃ d, dp = d + 1 := ⟨dp - 1, by omega⟩
    by_cases hs : xs (6 * t + 1) = 0
    · skip
      refine lv_aload_n hx hb d_LW_law_145 rfl (lv_at hl 3 rfl) ?_
      refine lv_aload_n hx hb d_LW_law_146 rfl (lv_at hl 4 rfl) ?_
      refine lv_iload hx hb d_LW_law_147 (lv_at hl 0 rfl) ?_
      refine lv_iconst (v := nI 1) hx hb d_LW_law_149 (by decide +kernel) ?_
      refine lv_iadd hx hb d_LW_law_150 ?_
      refine sx_topi (y := nI (6 * t + 1)) (nI_add _ _) ?_
      refine sx_sld (k := 6 * t + 1) C0 hX hbl (Nat.not_le.mpr hbl) hS (by omega) (by omega) rfl d_LW_law_151 ?_
      refine lv_if_eq (tgt := 159) hx hb d_LW_law_152 (by decide) (fun _ => ?_) (fun z => absurd (hs) z)
      refine lv_iconst (v := 0) hx hb d_LW_law_159 (by decide) ?_
      refine lv_aload_n hx hb d_LW_law_160 rfl (lv_at hl 1 rfl) ?_
      obtain ⟨c0, t0, a1, a2, a3, a4, a5, a6, a7, hinv2⟩ := p_inv_bad hinv
      refine sx_cSW (B := (fun _ => True)) (As := [.ref (ad 0), .int 0, .ref oo]) (rest := []) (wa := []) (wc := ((wSC G ad qc qb V F T L tc n CH BE cd rf C1 C2 C3 (d + 1)) ++ (wO G oo f))) (wb := (wMF G md fl V F T rf (d + 1) KR K KT)) C0 (c_LW_close0 (by omega) rfl a1 a2 a3 a4 hcn (by omega) htc hinv.2.1 (p_tl_ix hinv.1)) (fun _ _ _ _ _ => trivial) q_LW_60 i_LW_close ⟨Nat.le_of_ble_eq_true rfl, Nat.le_of_ble_eq_true rfl⟩ rfl hP hD hS hA (fun _ _ _ => trivial) hl.1 rfl (Nat.zero_le _) d_LW_law_161 ⟨(show 200 + 3 * t + 0 ≤ 601024 by omega), (show 20000 + 5000 * t + 0 ≤ 7293034 by omega)⟩ (fun r H locs hq hj hS => ?_)
      obtain ⟨rfl, hP1, hD1⟩ := hq
      obtain ⟨hP, hD⟩ := hj _ hP1 hD1
      have hP : va_P G.1 sx_cls ((wSC G ad qc qb (p_und CH BE c0 cd V) F (p_unt L t0 tc T) L t0 n CH BE c0 (C3 d) C1 C2 C3 d) ++ ((wO G oo (fun _ => (nI d).toInt64)) ++ (wMF G md fl V F T rf (d + 1) KR K KT))) H := hP
      have hD : va_D (lw_A s) ((wSC G ad qc qb (p_und CH BE c0 cd V) F (p_unt L t0 tc T) L t0 n CH BE c0 (C3 d) C1 C2 C3 d) ++ ((wO G oo (fun _ => (nI d).toInt64)) ++ (wMF G md fl V F T rf (d + 1) KR K KT))) := hD
      refine W.widen (k := 200 + 3 * (t + 1)) (n := 20000 + 5000 * (t + 1)) (show 200 + 3 * t + 0 ≤ 200 + 3 * (t + 1) by omega) (show 20000 + 5000 * t + 0 ≤ 20000 + 5000 * (t + 1) by omega) ?_
      refine lv_istore hx hb d_LW_law_164 hl (by decide) rfl (fun ls hl => ?_)
      have hl : lv_has ls 8 [(5, .int 0), (4, .int (nI (6 * t))), (3, .ref oo), (2, .ref (md 0)), (1, .ref (ad 0)), (0, .ref b)] := hl
      refine lv_aload_n hx hb d_LW_law_166 rfl (lv_at hl 3 rfl) ?_
      refine lv_aload_n hx hb d_LW_law_167 rfl (lv_at hl 5 rfl) ?_
      refine lv_iload hx hb d_LW_law_168 (lv_at hl 1 rfl) ?_
      refine lv_iconst (v := nI 1) hx hb d_LW_law_170 (by decide +kernel) ?_
      refine lv_iadd hx hb d_LW_law_171 ?_
      refine sx_topi (y := nI (6 * t + 1)) (nI_add _ _) ?_
      refine sx_sld (k := 6 * t + 1) C0 hX hbl (Nat.not_le.mpr hbl) hS (by omega) (by omega) rfl d_LW_law_172 ?_
      refine lv_if_eq (tgt := 180) hx hb d_LW_law_173 (by decide) (fun _ => ?_) (fun z => absurd (hs) z)
      refine lv_iconst (v := 0) hx hb d_LW_law_180 (by decide) ?_
      refine sx_cV (As := [.int 0]) (rest := []) (wa := ((wSC G ad qc qb (p_und CH BE c0 cd V) F (p_unt L t0 tc T) L t0 n CH BE c0 (C3 d) C1 C2 C3 d) ++ (wO G oo (fun _ => (nI d).toInt64)))) (wb := []) (k0 := 0) C0 (c_MD_close0 (by omega) rfl (fun i _ => p_vz (by rw [a7]; exact p_tl_bool (p_tl_undo a4 hinv.1) i))) q_LW_63 i_MD_close ⟨Nat.le_of_ble_eq_true rfl, Nat.le_of_ble_eq_true rfl⟩ rfl rfl rfl hP hD hS hA hl.1 rfl (Nat.le_of_ble_eq_true rfl) d_LW_law_181 ⟨(show 200 + 3 * (t + 1) + 0 ≤ 601024 by omega), (show 20000 + 5000 * (t + 1) + 0 ≤ 7293034 by omega)⟩ (fun r H locs hq hj hS => ?_)
      obtain ⟨rfl, hP1, hD1⟩ := hq
      obtain ⟨hP, hD⟩ := hj _ hP1 hD1
      have hP : va_P G.1 sx_cls ((wSC G ad qc qb (p_und CH BE c0 cd V) F (p_unt L t0 tc T) L t0 n CH BE c0 (C3 d) C1 C2 C3 d) ++ ((wO G oo (fun _ => (nI d).toInt64)) ++ (wMF G md 0 (K (d + 1)) F (KT (d + 1)) (KR (d + 1)) d KR K KT))) H := hP
      have hD : va_D (lw_A s) ((wSC G ad qc qb (p_und CH BE c0 cd V) F (p_unt L t0 tc T) L t0 n CH BE c0 (C3 d) C1 C2 C3 d) ++ ((wO G oo (fun _ => (nI d).toInt64)) ++ (wMF G md 0 (K (d + 1)) F (KT (d + 1)) (KR (d + 1)) d KR K KT))) := hD
      refine W.widen (k := 200 + 3 * (t + 1)) (n := 20000 + 5000 * (t + 1)) (Nat.le_refl _) (Nat.le_refl _) ?_
      refine lv_istore hx hb d_LW_law_184 hl (by decide) rfl (fun ls hl => ?_)
      have hl : lv_has ls 8 [(6, .int (nI d)), (5, .int 0), (4, .int (nI (6 * t))), (3, .ref oo), (2, .ref (md 0)), (1, .ref (ad 0)), (0, .ref b)] := hl
      refine lv_aload_n hx hb d_LW_law_186 rfl (lv_at hl 4 rfl) ?_
      refine sx_cVP (As := []) (rest := []) (wc := (wM4 G md 0 (K (d + 1)) F (KT (d + 1)) (KR (d + 1)) d)) (k0 := 0) C0 c_MD_thrown q_LW_57 i_MD_thrown ⟨Nat.le_of_ble_eq_true rfl, Nat.le_of_ble_eq_true rfl⟩ rfl rfl rfl (sx_mid (wa := ((wSC G ad qc qb (p_und CH BE c0 cd V) F (p_unt L t0 tc T) L t0 n CH BE c0 (C3 d) C1 C2 C3 d) ++ (wO G oo (fun _ => (nI d).toInt64)))) (wc := (wM4 G md 0 (K (d + 1)) F (KT (d + 1)) (KR (d + 1)) d)) (wb := (wMg G md KR ++ wMr G md K KT)) hP) hl.1 rfl (Nat.zero_le _) d_LW_law_187 ⟨(show 200 + 3 * (t + 1) ≤ 601024 by omega), (show 20000 + 5000 * (t + 1) ≤ 7293034 by omega)⟩ ?_
      refine lv_iload hx hb d_LW_law_190 (lv_at hl 1 rfl) ?_
      refine lv_icmp_eq (tgt := 197) hx hb d_LW_law_192 (by decide) (fun _ => ?_) (fun z => absurd (rfl) z)
      refine lv_iload hx hb d_LW_law_197 (lv_at hl 1 rfl) ?_
      refine lv_if_ne (tgt := 214) hx hb d_LW_law_199 (by decide) (fun z => absurd (rfl) z) (fun _ => ?_)
      refine lv_aload_n hx hb d_LW_law_202 rfl (lv_at hl 3 rfl) ?_
      refine lv_iconst (v := 0) hx hb d_LW_law_203 (by decide) ?_
      refine sx_lald (i := 0) (v := (nI d).toInt64) C0 hP 11 rfl rfl (by decide) (by decide) rfl d_LW_law_204 ?_
      refine lv_iload hx hb d_LW_law_205 (lv_at hl 0 rfl) ?_
      refine lv_i2l (v := (nI d).toInt64) hx hb d_LW_law_207 rfl ?_
      refine sx_lifeq (tgt := 214) C0 d_LW_law_208 d_LW_law_209 (by decide) (fun _ => ?_) (fun z => absurd rfl z)
      refine lv_goto (tgt := 635) hx hb d_LW_law_214 (by decide) ?_
      rw [a6, a7, ← a5] at hP hD
      have hP : va_P G.1 sx_cls ((wSC G ad qc qb (p_und CH BE c0 cd V) F (p_unt L t0 tc T) L t0 n CH BE c0 (C3 d) C1 C2 C3 d) ++ ((wO G oo (fun _ => (nI d).toInt64)) ++ (wMF G md 0 (p_und CH BE c0 cd V) F (p_unt L t0 tc T) (C3 d) d KR K KT))) H := hP
      have hD : va_D (lw_A s) ((wSC G ad qc qb (p_und CH BE c0 cd V) F (p_unt L t0 tc T) L t0 n CH BE c0 (C3 d) C1 C2 C3 d) ++ ((wO G oo (fun _ => (nI d).toInt64)) ++ (wMF G md 0 (p_und CH BE c0 cd V) F (p_unt L t0 tc T) (C3 d) d KR K KT))) := hD
      exact kk ls H locs ⟨_, _, _, _, _, _, _, _, _, _, _, _, _, _, _, _, _, _, _, _, _, hinv2, hn0, (by omega), (by omega), hP, hD, hS⟩ (lv_sub hl [2, 3, 4, 5, 6] rfl)
    · skip
      refine lv_aload_n hx hb d_LW_law_145 rfl (lv_at hl 3 rfl) ?_
      refine lv_aload_n hx hb d_LW_law_146 rfl (lv_at hl 4 rfl) ?_
      refine lv_iload hx hb d_LW_law_147 (lv_at hl 0 rfl) ?_
      refine lv_iconst (v := nI 1) hx hb d_LW_law_149 (by decide +kernel) ?_
      refine lv_iadd hx hb d_LW_law_150 ?_
      refine sx_topi (y := nI (6 * t + 1)) (nI_add _ _) ?_
      refine sx_sld (k := 6 * t + 1) C0 hX hbl (Nat.not_le.mpr hbl) hS (by omega) (by omega) rfl d_LW_law_151 ?_
      refine lv_if_eq (tgt := 159) hx hb d_LW_law_152 (by decide) (fun z => absurd z (hs)) (fun _ => ?_)
      refine lv_iconst (v := 1) hx hb d_LW_law_155 (by decide) ?_
      refine lv_goto (tgt := 160) hx hb d_LW_law_156 (by decide) ?_
      refine lv_aload_n hx hb d_LW_law_160 rfl (lv_at hl 1 rfl) ?_
      refine sx_cSW (B := (fun _ => True)) (As := [.ref (ad 0), .int 1, .ref oo]) (rest := []) (wa := []) (wc := ((wSC G ad qc qb V F T L tc n CH BE cd rf C1 C2 C3 (d + 1)) ++ (wO G oo f))) (wb := (wMF G md fl V F T rf (d + 1) KR K KT)) C0 (c_LW_close1 (by omega) (by decide)) (fun _ _ _ _ _ => trivial) q_LW_60 i_LW_close ⟨Nat.le_of_ble_eq_true rfl, Nat.le_of_ble_eq_true rfl⟩ rfl hP hD hS hA (fun _ _ _ => trivial) hl.1 rfl (Nat.zero_le _) d_LW_law_161 ⟨(show 200 + 3 * t + 0 ≤ 601024 by omega), (show 20000 + 5000 * t + 0 ≤ 7293034 by omega)⟩ (fun r H locs hq hj hS => ?_)
      obtain ⟨rfl, hP1, hD1⟩ := hq
      obtain ⟨hP, hD⟩ := hj _ hP1 hD1
      have hP : va_P G.1 sx_cls ((wSC G ad qc qb V F T L tc n CH BE cd rf C1 C2 C3 d) ++ ((wO G oo (fun _ => (nI d).toInt64)) ++ (wMF G md fl V F T rf (d + 1) KR K KT))) H := hP
      have hD : va_D (lw_A s) ((wSC G ad qc qb V F T L tc n CH BE cd rf C1 C2 C3 d) ++ ((wO G oo (fun _ => (nI d).toInt64)) ++ (wMF G md fl V F T rf (d + 1) KR K KT))) := hD
      refine W.widen (k := 200 + 3 * (t + 1)) (n := 20000 + 5000 * (t + 1)) (show 200 + 3 * t + 0 ≤ 200 + 3 * (t + 1) by omega) (show 20000 + 5000 * t + 0 ≤ 20000 + 5000 * (t + 1) by omega) ?_
      refine lv_istore hx hb d_LW_law_164 hl (by decide) rfl (fun ls hl => ?_)
      have hl : lv_has ls 8 [(5, .int 0), (4, .int (nI (6 * t))), (3, .ref oo), (2, .ref (md 0)), (1, .ref (ad 0)), (0, .ref b)] := hl
      refine lv_aload_n hx hb d_LW_law_166 rfl (lv_at hl 3 rfl) ?_
      refine lv_aload_n hx hb d_LW_law_167 rfl (lv_at hl 5 rfl) ?_
      refine lv_iload hx hb d_LW_law_168 (lv_at hl 1 rfl) ?_
      refine lv_iconst (v := nI 1) hx hb d_LW_law_170 (by decide +kernel) ?_
      refine lv_iadd hx hb d_LW_law_171 ?_
      refine sx_topi (y := nI (6 * t + 1)) (nI_add _ _) ?_
      refine sx_sld (k := 6 * t + 1) C0 hX hbl (Nat.not_le.mpr hbl) hS (by omega) (by omega) rfl d_LW_law_172 ?_
      refine lv_if_eq (tgt := 180) hx hb d_LW_law_173 (by decide) (fun z => absurd z (hs)) (fun _ => ?_)
      refine lv_iconst (v := 1) hx hb d_LW_law_176 (by decide) ?_
      refine lv_goto (tgt := 181) hx hb d_LW_law_177 (by decide) ?_
      refine sx_cV (As := [.int 1]) (rest := []) (wa := ((wSC G ad qc qb V F T L tc n CH BE cd rf C1 C2 C3 d) ++ (wO G oo (fun _ => (nI d).toInt64)))) (wb := []) (k0 := 0) C0 (c_MD_close1 (by omega) (by decide)) q_LW_63 i_MD_close ⟨Nat.le_of_ble_eq_true rfl, Nat.le_of_ble_eq_true rfl⟩ rfl rfl rfl hP hD hS hA hl.1 rfl (Nat.le_of_ble_eq_true rfl) d_LW_law_181 ⟨(show 200 + 3 * (t + 1) + 0 ≤ 601024 by omega), (show 20000 + 5000 * (t + 1) + 0 ≤ 7293034 by omega)⟩ (fun r H locs hq hj hS => ?_)
      obtain ⟨rfl, hP1, hD1⟩ := hq
      obtain ⟨hP, hD⟩ := hj _ hP1 hD1
      have hP : va_P G.1 sx_cls ((wSC G ad qc qb V F T L tc n CH BE cd rf C1 C2 C3 d) ++ ((wO G oo (fun _ => (nI d).toInt64)) ++ (wMF G md 0 V F T rf d KR K KT))) H := hP
      have hD : va_D (lw_A s) ((wSC G ad qc qb V F T L tc n CH BE cd rf C1 C2 C3 d) ++ ((wO G oo (fun _ => (nI d).toInt64)) ++ (wMF G md 0 V F T rf d KR K KT))) := hD
      refine W.widen (k := 200 + 3 * (t + 1)) (n := 20000 + 5000 * (t + 1)) (Nat.le_refl _) (Nat.le_refl _) ?_
      refine lv_istore hx hb d_LW_law_184 hl (by decide) rfl (fun ls hl => ?_)
      have hl : lv_has ls 8 [(6, .int (nI d)), (5, .int 0), (4, .int (nI (6 * t))), (3, .ref oo), (2, .ref (md 0)), (1, .ref (ad 0)), (0, .ref b)] := hl
      refine lv_aload_n hx hb d_LW_law_186 rfl (lv_at hl 4 rfl) ?_
      refine sx_cVP (As := []) (rest := []) (wc := (wM4 G md 0 V F T rf d)) (k0 := 0) C0 c_MD_thrown q_LW_57 i_MD_thrown ⟨Nat.le_of_ble_eq_true rfl, Nat.le_of_ble_eq_true rfl⟩ rfl rfl rfl (sx_mid (wa := ((wSC G ad qc qb V F T L tc n CH BE cd rf C1 C2 C3 d) ++ (wO G oo (fun _ => (nI d).toInt64)))) (wc := (wM4 G md 0 V F T rf d)) (wb := (wMg G md KR ++ wMr G md K KT)) hP) hl.1 rfl (Nat.zero_le _) d_LW_law_187 ⟨(show 200 + 3 * (t + 1) ≤ 601024 by omega), (show 20000 + 5000 * (t + 1) ≤ 7293034 by omega)⟩ ?_
      refine lv_iload hx hb d_LW_law_190 (lv_at hl 1 rfl) ?_
      refine lv_icmp_eq (tgt := 197) hx hb d_LW_law_192 (by decide) (fun _ => ?_) (fun z => absurd (rfl) z)
      refine lv_iload hx hb d_LW_law_197 (lv_at hl 1 rfl) ?_
      refine lv_if_ne (tgt := 214) hx hb d_LW_law_199 (by decide) (fun z => absurd (rfl) z) (fun _ => ?_)
      refine lv_aload_n hx hb d_LW_law_202 rfl (lv_at hl 3 rfl) ?_
      refine lv_iconst (v := 0) hx hb d_LW_law_203 (by decide) ?_
      refine sx_lald (i := 0) (v := (nI d).toInt64) C0 hP 11 rfl rfl (by decide) (by decide) rfl d_LW_law_204 ?_
      refine lv_iload hx hb d_LW_law_205 (lv_at hl 0 rfl) ?_
      refine lv_i2l (v := (nI d).toInt64) hx hb d_LW_law_207 rfl ?_
      refine sx_lifeq (tgt := 214) C0 d_LW_law_208 d_LW_law_209 (by decide) (fun _ => ?_) (fun z => absurd rfl z)
      refine lv_goto (tgt := 635) hx hb d_LW_law_214 (by decide) ?_
      exact kk ls H locs ⟨_, _, _, _, _, _, _, _, _, _, _, _, _, _, _, _, _, _, _, _, _, p_inv_good hinv, hn0, (by omega), (by omega), hP, hD, hS⟩ (lv_sub hl [2, 3, 4, 5, 6] rfl)
end SO1
end
section
/-! the law: load, store -/
section SO2
variable {p : Program} {l : Launch} {e : Env} {s : State} {m : MethodId} {args : Array Value} {below : List Frame} {meth : Method} {c : Code} {H : Heap} {locs : List Loc} {Q : State → Prop} {G : sx_G} {ls : Array Slot} {ad md : Nat → Nat} {oo b LN t : Nat} {xs : Nat → Int32}
set_option maxRecDepth 20000 in
theorem law_op3 (C0 : sx_C p s m c code 8 sx_LW G) (hfl : l.flags = flags0) (hTS : sx_TS s) (hX : va_X b LN xs s s.heap) (hbl : b < s.heap.size) (hLN : LN ≤ 3072) (ht : 6 * t + 6 ≤ LN) (hSt : lw_St G ad md oo s t H locs) (hl : lv_has ls 8 [(4, .int (nI (6 * t))), (3, .ref oo), (2, .ref (md 0)), (1, .ref (ad 0)), (0, .ref b)])
    (kk : ∀ (ls : Array Slot) (H : Heap) (locs : List Loc), lw_St G ad md oo s (t + 1) H locs → lv_has ls 8 [(4, .int (nI (6 * t))), (3, .ref oo), (2, .ref (md 0)), (1, .ref (ad 0)), (0, .ref b)] → W p l e room_1 s m args below meth c H locs (200 + 3 * (t + 1)) (20000 + 5000 * (t + 1)) Q (F0 m 635 ls [])) :
    W p l e room_1 s m args below meth c H locs (200 + 3 * t) (20000 + 5000 * t) Q (F0 m 217 ls []) := by
  have hx := C0.1
  have hb := C0.2.1
  have hA : ∀ q, s.heap.size ≤ q → lw_A s q := fun _ h => h
  obtain ⟨qc, qb, V, F, T, L, tc, n, CH, BE, cd, rf, C1, C2, C3, dp, f, fl, KR, K, KT, hinv, hn0, hn, hcd, hP, hD, hS⟩ := hSt
  have htc : tc ≤ 256 := p_tl_le hinv.1
  have hdp : dp ≤ 30 := hinv.2.2.2.1
  have hcn : cd ≤ n := hinv.2.2.1
  have hz : ∀ j, T j = 0 ∨ T j = 1 := p_tl_bool hinv.1
  by_cases ho : p_out (xs (6 * t + 1)) (xs (6 * t + 2))
  · skip
    refine lv_aload_n hx hb d_LW_law_217 rfl (lv_at hl 3 rfl) ?_
    refine lv_aload_n hx hb d_LW_law_218 rfl (lv_at hl 4 rfl) ?_
    refine lv_iload hx hb d_LW_law_219 (lv_at hl 0 rfl) ?_
    refine lv_iconst (v := nI 1) hx hb d_LW_law_221 (by decide +kernel) ?_
    refine lv_iadd hx hb d_LW_law_222 ?_
    refine sx_topi (y := nI (6 * t + 1)) (nI_add _ _) ?_
    refine sx_sld (k := 6 * t + 1) C0 hX hbl (Nat.not_le.mpr hbl) hS (by omega) (by omega) rfl d_LW_law_223 ?_
    refine lv_aload_n hx hb d_LW_law_224 rfl (lv_at hl 4 rfl) ?_
    refine lv_iload hx hb d_LW_law_225 (lv_at hl 0 rfl) ?_
    refine lv_iconst (v := nI 2) hx hb d_LW_law_227 (by decide +kernel) ?_
    refine lv_iadd hx hb d_LW_law_228 ?_
    refine sx_topi (y := nI (6 * t + 2)) (nI_add _ _) ?_
    refine sx_sld (k := 6 * t + 2) C0 hX hbl (Nat.not_le.mpr hbl) hS (by omega) (by omega) rfl d_LW_law_229 ?_
    refine lv_aload_n hx hb d_LW_law_230 rfl (lv_at hl 1 rfl) ?_
    refine sx_cSW (B := sx_TS) (As := [.ref (ad 0), .int (xs (6 * t + 1)), .int (xs (6 * t + 2)), .ref oo]) (rest := []) (wa := []) (wc := ((wSC G ad qc qb V F T L tc n CH BE cd rf C1 C2 C3 dp) ++ (wO G oo f))) (wb := (wMF G md fl V F T rf dp KR K KT)) C0 (x_LW_load hfl ho) (fun U g mk a h => h.same rfl rfl) q_LW_64 i_LW_load ⟨Nat.le_of_ble_eq_true rfl, Nat.le_of_ble_eq_true rfl⟩ rfl hP hD hS hA (fun U hU hW => hTS.ext hW (fun q hq => by rw [hU]; exact hS.2.1 q hq (Nat.not_le.mpr hq))) hl.1 rfl (Nat.zero_le _) d_LW_law_231 ⟨(show 200 + 3 * t + 1 ≤ 601024 by omega), (show 20000 + 5000 * t + 6 ≤ 7293034 by omega)⟩ (fun r H locs hq hj hS => ?_)
    obtain ⟨rfl, hP1, hD1⟩ := hq
    obtain ⟨hP, hD⟩ := hj _ hP1 hD1
    have hP : va_P G.1 sx_cls ((wSC G ad qc qb V F T L tc n CH BE cd rf C1 C2 C3 dp) ++ ((wO G oo f) ++ (wMF G md fl V F T rf dp KR K KT))) H := hP
    have hD : va_D (lw_A s) ((wSC G ad qc qb V F T L tc n CH BE cd rf C1 C2 C3 dp) ++ ((wO G oo f) ++ (wMF G md fl V F T rf dp KR K KT))) := hD
    refine W.widen (k := 200 + 3 * (t + 1)) (n := 20000 + 5000 * (t + 1)) (show 200 + 3 * t + 1 ≤ 200 + 3 * (t + 1) by omega) (show 20000 + 5000 * t + 6 ≤ 20000 + 5000 * (t + 1) by omega) ?_
    refine lv_istore hx hb d_LW_law_234 hl (by decide) rfl (fun ls hl => ?_)
    have hl : lv_has ls 8 [(5, .int 1), (4, .int (nI (6 * t))), (3, .ref oo), (2, .ref (md 0)), (1, .ref (ad 0)), (0, .ref b)] := hl
    refine lv_aload_n hx hb d_LW_law_236 rfl (lv_at hl 3 rfl) ?_
    refine lv_aload_n hx hb d_LW_law_237 rfl (lv_at hl 5 rfl) ?_
    refine lv_iload hx hb d_LW_law_238 (lv_at hl 1 rfl) ?_
    refine lv_iconst (v := nI 1) hx hb d_LW_law_240 (by decide +kernel) ?_
    refine lv_iadd hx hb d_LW_law_241 ?_
    refine sx_topi (y := nI (6 * t + 1)) (nI_add _ _) ?_
    refine sx_sld (k := 6 * t + 1) C0 hX hbl (Nat.not_le.mpr hbl) hS (by omega) (by omega) rfl d_LW_law_242 ?_
    refine lv_aload_n hx hb d_LW_law_243 rfl (lv_at hl 5 rfl) ?_
    refine lv_iload hx hb d_LW_law_244 (lv_at hl 1 rfl) ?_
    refine lv_iconst (v := nI 2) hx hb d_LW_law_246 (by decide +kernel) ?_
    refine lv_iadd hx hb d_LW_law_247 ?_
    refine sx_topi (y := nI (6 * t + 2)) (nI_add _ _) ?_
    refine sx_sld (k := 6 * t + 2) C0 hX hbl (Nat.not_le.mpr hbl) hS (by omega) (by omega) rfl d_LW_law_248 ?_
    refine sx_cV (As := [.int (xs (6 * t + 1)), .int (xs (6 * t + 2))]) (rest := []) (wa := ((wSC G ad qc qb V F T L tc n CH BE cd rf C1 C2 C3 dp) ++ (wO G oo f))) (wb := (wMg G md KR ++ wMr G md K KT)) (k0 := 0) C0 (c_MD_load1 ho) q_LW_67 i_MD_load ⟨Nat.le_of_ble_eq_true rfl, Nat.le_of_ble_eq_true rfl⟩ rfl rfl rfl hP hD hS hA hl.1 rfl (Nat.le_of_ble_eq_true rfl) d_LW_law_249 ⟨(show 200 + 3 * (t + 1) + 0 ≤ 601024 by omega), (show 20000 + 5000 * (t + 1) + 0 ≤ 7293034 by omega)⟩ (fun r H locs hq hj hS => ?_)
    obtain ⟨rfl, hP1, hD1⟩ := hq
    obtain ⟨hP, hD⟩ := hj _ hP1 hD1
    have hP : va_P G.1 sx_cls ((wSC G ad qc qb V F T L tc n CH BE cd rf C1 C2 C3 dp) ++ ((wO G oo f) ++ (wMF G md 1 V F T rf dp KR K KT))) H := hP
    have hD : va_D (lw_A s) ((wSC G ad qc qb V F T L tc n CH BE cd rf C1 C2 C3 dp) ++ ((wO G oo f) ++ (wMF G md 1 V F T rf dp KR K KT))) := hD
    refine W.widen (k := 200 + 3 * (t + 1)) (n := 20000 + 5000 * (t + 1)) (Nat.le_refl _) (Nat.le_refl _) ?_
    refine lv_istore hx hb d_LW_law_252 hl (by decide) rfl (fun ls hl => ?_)
    have hl : lv_has ls 8 [(6, .int 0), (5, .int 1), (4, .int (nI (6 * t))), (3, .ref oo), (2, .ref (md 0)), (1, .ref (ad 0)), (0, .ref b)] := hl
    refine lv_aload_n hx hb d_LW_law_254 rfl (lv_at hl 4 rfl) ?_
    refine sx_cVP (As := []) (rest := []) (wc := (wM4 G md 1 V F T rf dp)) (k0 := 0) C0 c_MD_thrown q_LW_57 i_MD_thrown ⟨Nat.le_of_ble_eq_true rfl, Nat.le_of_ble_eq_true rfl⟩ rfl rfl rfl (sx_mid (wa := ((wSC G ad qc qb V F T L tc n CH BE cd rf C1 C2 C3 dp) ++ (wO G oo f))) (wc := (wM4 G md 1 V F T rf dp)) (wb := (wMg G md KR ++ wMr G md K KT)) hP) hl.1 rfl (Nat.zero_le _) d_LW_law_255 ⟨(show 200 + 3 * (t + 1) ≤ 601024 by omega), (show 20000 + 5000 * (t + 1) ≤ 7293034 by omega)⟩ ?_
    refine lv_iload hx hb d_LW_law_258 (lv_at hl 1 rfl) ?_
    refine lv_icmp_eq (tgt := 265) hx hb d_LW_law_260 (by decide) (fun _ => ?_) (fun z => absurd (rfl) z)
    refine lv_iload hx hb d_LW_law_265 (lv_at hl 1 rfl) ?_
    refine lv_if_ne (tgt := 282) hx hb d_LW_law_267 (by decide) (fun _ => ?_) (fun z => absurd z ((by decide)))
    refine lv_goto (tgt := 635) hx hb d_LW_law_282 (by decide) ?_
    exact kk ls H locs ⟨_, _, _, _, _, _, _, _, _, _, _, _, _, _, _, _, _, _, _, _, _, hinv, hn0, (by omega), (by omega), hP, hD, hS⟩ (lv_sub hl [2, 3, 4, 5, 6] rfl)
  · obtain ⟨a, b1, ha, hb1, e1, e2⟩ := p_out_not ho
    refine lv_aload_n hx hb d_LW_law_217 rfl (lv_at hl 3 rfl) ?_
    refine lv_aload_n hx hb d_LW_law_218 rfl (lv_at hl 4 rfl) ?_
    refine lv_iload hx hb d_LW_law_219 (lv_at hl 0 rfl) ?_
    refine lv_iconst (v := nI 1) hx hb d_LW_law_221 (by decide +kernel) ?_
    refine lv_iadd hx hb d_LW_law_222 ?_
    refine sx_topi (y := nI (6 * t + 1)) (nI_add _ _) ?_
    refine sx_sld (k := 6 * t + 1) C0 hX hbl (Nat.not_le.mpr hbl) hS (by omega) (by omega) rfl d_LW_law_223 ?_
    refine sx_topi (y := nI a) e1 ?_
    refine lv_aload_n hx hb d_LW_law_224 rfl (lv_at hl 4 rfl) ?_
    refine lv_iload hx hb d_LW_law_225 (lv_at hl 0 rfl) ?_
    refine lv_iconst (v := nI 2) hx hb d_LW_law_227 (by decide +kernel) ?_
    refine lv_iadd hx hb d_LW_law_228 ?_
    refine sx_topi (y := nI (6 * t + 2)) (nI_add _ _) ?_
    refine sx_sld (k := 6 * t + 2) C0 hX hbl (Nat.not_le.mpr hbl) hS (by omega) (by omega) rfl d_LW_law_229 ?_
    refine sx_topi (y := nI b1) e2 ?_
    refine lv_aload_n hx hb d_LW_law_230 rfl (lv_at hl 1 rfl) ?_
    refine sx_cSW (B := (fun _ => True)) (As := [.ref (ad 0), .int (nI a), .int (nI b1), .ref oo]) (rest := []) (wa := []) (wc := ((wSC G ad qc qb V F T L tc n CH BE cd rf C1 C2 C3 dp) ++ (wO G oo f))) (wb := (wMF G md fl V F T rf dp KR K KT)) C0 (c_LW_load ha hb1 (fun h => p_tl_room hinv.1 (show 64 * a + b1 < 256 by omega) h)) (fun _ _ _ _ _ => trivial) q_LW_64 i_LW_load ⟨Nat.le_of_ble_eq_true rfl, Nat.le_of_ble_eq_true rfl⟩ rfl hP hD hS hA (fun _ _ _ => trivial) hl.1 rfl (Nat.zero_le _) d_LW_law_231 ⟨(show 200 + 3 * t + 0 ≤ 601024 by omega), (show 20000 + 5000 * t + 0 ≤ 7293034 by omega)⟩ (fun r H locs hq hj hS => ?_)
    obtain ⟨T', L', tc', rfl, htch, hP1, hD1⟩ := hq
    obtain ⟨hP, hD⟩ := hj _ hP1 hD1
    have hP : va_P G.1 sx_cls ((wSC G ad qc qb V F T' L' tc' n CH BE cd rf C1 C2 C3 dp) ++ ((wO G oo (fun _ => ((if T (64 * a + b1) = 0 then 2100 else 100) : Int32).toInt64)) ++ (wMF G md fl V F T rf dp KR K KT))) H := hP
    have hD : va_D (lw_A s) ((wSC G ad qc qb V F T' L' tc' n CH BE cd rf C1 C2 C3 dp) ++ ((wO G oo (fun _ => ((if T (64 * a + b1) = 0 then 2100 else 100) : Int32).toInt64)) ++ (wMF G md fl V F T rf dp KR K KT))) := hD
    refine W.widen (k := 200 + 3 * (t + 1)) (n := 20000 + 5000 * (t + 1)) (show 200 + 3 * t + 0 ≤ 200 + 3 * (t + 1) by omega) (show 20000 + 5000 * t + 0 ≤ 20000 + 5000 * (t + 1) by omega) ?_
    refine lv_istore hx hb d_LW_law_234 hl (by decide) rfl (fun ls hl => ?_)
    have hl : lv_has ls 8 [(5, .int 0), (4, .int (nI (6 * t))), (3, .ref oo), (2, .ref (md 0)), (1, .ref (ad 0)), (0, .ref b)] := hl
    refine lv_aload_n hx hb d_LW_law_236 rfl (lv_at hl 3 rfl) ?_
    refine lv_aload_n hx hb d_LW_law_237 rfl (lv_at hl 5 rfl) ?_
    refine lv_iload hx hb d_LW_law_238 (lv_at hl 1 rfl) ?_
    refine lv_iconst (v := nI 1) hx hb d_LW_law_240 (by decide +kernel) ?_
    refine lv_iadd hx hb d_LW_law_241 ?_
    refine sx_topi (y := nI (6 * t + 1)) (nI_add _ _) ?_
    refine sx_sld (k := 6 * t + 1) C0 hX hbl (Nat.not_le.mpr hbl) hS (by omega) (by omega) rfl d_LW_law_242 ?_
    refine sx_topi (y := nI a) e1 ?_
    refine lv_aload_n hx hb d_LW_law_243 rfl (lv_at hl 5 rfl) ?_
    refine lv_iload hx hb d_LW_law_244 (lv_at hl 1 rfl) ?_
    refine lv_iconst (v := nI 2) hx hb d_LW_law_246 (by decide +kernel) ?_
    refine lv_iadd hx hb d_LW_law_247 ?_
    refine sx_topi (y := nI (6 * t + 2)) (nI_add _ _) ?_
    refine sx_sld (k := 6 * t + 2) C0 hX hbl (Nat.not_le.mpr hbl) hS (by omega) (by omega) rfl d_LW_law_248 ?_
    refine sx_topi (y := nI b1) e2 ?_
    refine sx_cV (As := [.int (nI a), .int (nI b1)]) (rest := []) (wa := ((wSC G ad qc qb V F T' L' tc' n CH BE cd rf C1 C2 C3 dp) ++ (wO G oo (fun _ => ((if T (64 * a + b1) = 0 then 2100 else 100) : Int32).toInt64)))) (wb := (wMg G md KR ++ wMr G md K KT)) (k0 := 0) C0 (c_MD_load0 ha hb1) q_LW_67 i_MD_load ⟨Nat.le_of_ble_eq_true rfl, Nat.le_of_ble_eq_true rfl⟩ rfl rfl rfl hP hD hS hA hl.1 rfl (Nat.le_of_ble_eq_true rfl) d_LW_law_249 ⟨(show 200 + 3 * (t + 1) + 0 ≤ 601024 by omega), (show 20000 + 5000 * (t + 1) + 0 ≤ 7293034 by omega)⟩ (fun r H locs hq hj hS => ?_)
    obtain ⟨rfl, hP1, hD1⟩ := hq
    obtain ⟨hP, hD⟩ := hj _ hP1 hD1
    have hP : va_P G.1 sx_cls ((wSC G ad qc qb V F T' L' tc' n CH BE cd rf C1 C2 C3 dp) ++ ((wO G oo (fun _ => ((if T (64 * a + b1) = 0 then 2100 else 100) : Int32).toInt64)) ++ (wMF G md 0 V F (upd T (64 * a + b1) 1) rf dp KR K KT))) H := hP
    have hD : va_D (lw_A s) ((wSC G ad qc qb V F T' L' tc' n CH BE cd rf C1 C2 C3 dp) ++ ((wO G oo (fun _ => ((if T (64 * a + b1) = 0 then 2100 else 100) : Int32).toInt64)) ++ (wMF G md 0 V F (upd T (64 * a + b1) 1) rf dp KR K KT))) := hD
    refine W.widen (k := 200 + 3 * (t + 1)) (n := 20000 + 5000 * (t + 1)) (Nat.le_refl _) (Nat.le_refl _) ?_
    refine lv_istore hx hb d_LW_law_252 hl (by decide) rfl (fun ls hl => ?_)
    have hl : lv_has ls 8 [(6, .int (if T (64 * a + b1) = 0 then 2100 else 100)), (5, .int 0), (4, .int (nI (6 * t))), (3, .ref oo), (2, .ref (md 0)), (1, .ref (ad 0)), (0, .ref b)] := hl
    refine lv_aload_n hx hb d_LW_law_254 rfl (lv_at hl 4 rfl) ?_
    refine sx_cVP (As := []) (rest := []) (wc := (wM4 G md 0 V F (upd T (64 * a + b1) 1) rf dp)) (k0 := 0) C0 c_MD_thrown q_LW_57 i_MD_thrown ⟨Nat.le_of_ble_eq_true rfl, Nat.le_of_ble_eq_true rfl⟩ rfl rfl rfl (sx_mid (wa := ((wSC G ad qc qb V F T' L' tc' n CH BE cd rf C1 C2 C3 dp) ++ (wO G oo (fun _ => ((if T (64 * a + b1) = 0 then 2100 else 100) : Int32).toInt64)))) (wc := (wM4 G md 0 V F (upd T (64 * a + b1) 1) rf dp)) (wb := (wMg G md KR ++ wMr G md K KT)) hP) hl.1 rfl (Nat.zero_le _) d_LW_law_255 ⟨(show 200 + 3 * (t + 1) ≤ 601024 by omega), (show 20000 + 5000 * (t + 1) ≤ 7293034 by omega)⟩ ?_
    refine lv_iload hx hb d_LW_law_258 (lv_at hl 1 rfl) ?_
    refine lv_icmp_eq (tgt := 265) hx hb d_LW_law_260 (by decide) (fun _ => ?_) (fun z => absurd (rfl) z)
    refine lv_iload hx hb d_LW_law_265 (lv_at hl 1 rfl) ?_
    refine lv_if_ne (tgt := 282) hx hb d_LW_law_267 (by decide) (fun z => absurd (rfl) z) (fun _ => ?_)
    refine lv_aload_n hx hb d_LW_law_270 rfl (lv_at hl 3 rfl) ?_
    refine lv_iconst (v := 0) hx hb d_LW_law_271 (by decide) ?_
    refine sx_lald (i := 0) (v := ((if T (64 * a + b1) = 0 then 2100 else 100) : Int32).toInt64) C0 hP 11 rfl rfl (by decide) (by decide) rfl d_LW_law_272 ?_
    refine lv_iload hx hb d_LW_law_273 (lv_at hl 0 rfl) ?_
    refine lv_i2l (v := ((if T (64 * a + b1) = 0 then 2100 else 100) : Int32).toInt64) hx hb d_LW_law_275 rfl ?_
    refine sx_lifeq (tgt := 282) C0 d_LW_law_276 d_LW_law_277 (by decide) (fun _ => ?_) (fun z => absurd rfl z)
    refine lv_goto (tgt := 635) hx hb d_LW_law_282 (by decide) ?_
    obtain ⟨hinv, rfl⟩ := p_inv_tch hinv (show 64 * a + b1 < 256 by omega) htch
    exact kk ls H locs ⟨_, _, _, _, _, _, _, _, _, _, _, _, _, _, _, _, _, _, _, _, _, hinv, hn0, (by omega), (by omega), hP, hD, hS⟩ (lv_sub hl [2, 3, 4, 5, 6] rfl)
set_option maxRecDepth 20000 in
theorem law_op4 (C0 : sx_C p s m c code 8 sx_LW G) (hfl : l.flags = flags0) (hTS : sx_TS s) (hX : va_X b LN xs s s.heap) (hbl : b < s.heap.size) (hLN : LN ≤ 3072) (ht : 6 * t + 6 ≤ LN) (hSt : lw_St G ad md oo s t H locs) (hl : lv_has ls 8 [(4, .int (nI (6 * t))), (3, .ref oo), (2, .ref (md 0)), (1, .ref (ad 0)), (0, .ref b)])
    (kk : ∀ (ls : Array Slot) (H : Heap) (locs : List Loc), lw_St G ad md oo s (t + 1) H locs → lv_has ls 8 [(4, .int (nI (6 * t))), (3, .ref oo), (2, .ref (md 0)), (1, .ref (ad 0)), (0, .ref b)] → W p l e room_1 s m args below meth c H locs (200 + 3 * (t + 1)) (20000 + 5000 * (t + 1)) Q (F0 m 635 ls [])) :
    W p l e room_1 s m args below meth c H locs (200 + 3 * t) (20000 + 5000 * t) Q (F0 m 285 ls []) := by
  have hx := C0.1
  have hb := C0.2.1
  have hA : ∀ q, s.heap.size ≤ q → lw_A s q := fun _ h => h
  obtain ⟨qc, qb, V, F, T, L, tc, n, CH, BE, cd, rf, C1, C2, C3, dp, f, fl, KR, K, KT, hinv, hn0, hn, hcd, hP, hD, hS⟩ := hSt
  have htc : tc ≤ 256 := p_tl_le hinv.1
  have hdp : dp ≤ 30 := hinv.2.2.2.1
  have hcn : cd ≤ n := hinv.2.2.1
  have hz : ∀ j, T j = 0 ∨ T j = 1 := p_tl_bool hinv.1
  by_cases ho : p_out (xs (6 * t + 1)) (xs (6 * t + 2))
  · skip
    obtain ⟨v, hv⟩ : ∃ v : Int64, v = (xs (6 * t + 3)).toInt64 <<< ((32 : Int32).toInt64 &&& 63) ||| (xs (6 * t + 4)).toInt64 &&& 4294967295 := ⟨_, rfl⟩
    refine lv_aload_n hx hb d_LW_law_285 rfl (lv_at hl 3 rfl) ?_
    refine lv_aload_n hx hb d_LW_law_286 rfl (lv_at hl 4 rfl) ?_
    refine lv_iload hx hb d_LW_law_287 (lv_at hl 0 rfl) ?_
    refine lv_iconst (v := nI 1) hx hb d_LW_law_289 (by decide +kernel) ?_
    refine lv_iadd hx hb d_LW_law_290 ?_
    refine sx_topi (y := nI (6 * t + 1)) (nI_add _ _) ?_
    refine sx_sld (k := 6 * t + 1) C0 hX hbl (Nat.not_le.mpr hbl) hS (by omega) (by omega) rfl d_LW_law_291 ?_
    refine lv_aload_n hx hb d_LW_law_292 rfl (lv_at hl 4 rfl) ?_
    refine lv_iload hx hb d_LW_law_293 (lv_at hl 0 rfl) ?_
    refine lv_iconst (v := nI 2) hx hb d_LW_law_295 (by decide +kernel) ?_
    refine lv_iadd hx hb d_LW_law_296 ?_
    refine sx_topi (y := nI (6 * t + 2)) (nI_add _ _) ?_
    refine sx_sld (k := 6 * t + 2) C0 hX hbl (Nat.not_le.mpr hbl) hS (by omega) (by omega) rfl d_LW_law_297 ?_
    refine lv_aload_n hx hb d_LW_law_298 rfl (lv_at hl 4 rfl) ?_
    refine lv_iload hx hb d_LW_law_299 (lv_at hl 0 rfl) ?_
    refine lv_iconst (v := nI 3) hx hb d_LW_law_301 (by decide +kernel) ?_
    refine lv_iadd hx hb d_LW_law_302 ?_
    refine sx_topi (y := nI (6 * t + 3)) (nI_add _ _) ?_
    refine sx_sld (k := 6 * t + 3) C0 hX hbl (Nat.not_le.mpr hbl) hS (by omega) (by omega) rfl d_LW_law_303 ?_
    refine lv_i2l (v := (xs (6 * t + 3)).toInt64) hx hb d_LW_law_304 rfl ?_
    refine lv_bipush (v := 32) hx hb d_LW_law_305 (by decide) ?_
    refine lv_lshl (v := ((xs (6 * t + 3)).toInt64) <<< ((32 : Int32).toInt64 &&& 63)) hx hb d_LW_law_307 rfl ?_
    refine lv_aload_n hx hb d_LW_law_308 rfl (lv_at hl 4 rfl) ?_
    refine lv_iload hx hb d_LW_law_309 (lv_at hl 0 rfl) ?_
    refine lv_iconst (v := nI 4) hx hb d_LW_law_311 (by decide +kernel) ?_
    refine lv_iadd hx hb d_LW_law_312 ?_
    refine sx_topi (y := nI (6 * t + 4)) (nI_add _ _) ?_
    refine sx_sld (k := 6 * t + 4) C0 hX hbl (Nat.not_le.mpr hbl) hS (by omega) (by omega) rfl d_LW_law_313 ?_
    refine lv_i2l (v := (xs (6 * t + 4)).toInt64) hx hb d_LW_law_314 rfl ?_
    refine lv_ldc2 (v := 4294967295) hx hb C0.2.2.2.1 (C0.2.2.2.2.1.use sx_cl (Or.inl rfl) args) d_LW_law_315 ?_
    refine lv_land hx hb d_LW_law_318 ?_
    refine lv_lor hx hb d_LW_law_319 ?_
    refine sx_topl (y := v) hv.symm ?_
    refine lv_aload_n hx hb d_LW_law_320 rfl (lv_at hl 4 rfl) ?_
    refine lv_iload hx hb d_LW_law_321 (lv_at hl 0 rfl) ?_
    refine lv_iconst (v := nI 5) hx hb d_LW_law_323 (by decide +kernel) ?_
    refine lv_iadd hx hb d_LW_law_324 ?_
    refine sx_topi (y := nI (6 * t + 5)) (nI_add _ _) ?_
    refine sx_sld (k := 6 * t + 5) C0 hX hbl (Nat.not_le.mpr hbl) hS (by omega) (by omega) rfl d_LW_law_325 ?_
    refine lv_aload_n hx hb d_LW_law_326 rfl (lv_at hl 1 rfl) ?_
    refine sx_cSW (B := sx_TS) (As := [.ref (ad 0), .int (xs (6 * t + 1)), .int (xs (6 * t + 2)), .long v, .int (xs (6 * t + 5)), .ref oo]) (rest := []) (wa := []) (wc := ((wSC G ad qc qb V F T L tc n CH BE cd rf C1 C2 C3 dp) ++ (wO G oo f))) (wb := (wMF G md fl V F T rf dp KR K KT)) C0 (x_LW_store1 hfl ho) (fun U g mk a h => h.same rfl rfl) q_LW_70 i_LW_store ⟨Nat.le_of_ble_eq_true rfl, Nat.le_of_ble_eq_true rfl⟩ rfl hP hD hS hA (fun U hU hW => hTS.ext hW (fun q hq => by rw [hU]; exact hS.2.1 q hq (Nat.not_le.mpr hq))) hl.1 rfl (Nat.zero_le _) d_LW_law_327 ⟨(show 200 + 3 * t + 1 ≤ 601024 by omega), (show 20000 + 5000 * t + 6 ≤ 7293034 by omega)⟩ (fun r H locs hq hj hS => ?_)
    obtain ⟨rfl, hP1, hD1⟩ := hq
    obtain ⟨hP, hD⟩ := hj _ hP1 hD1
    have hP : va_P G.1 sx_cls ((wSC G ad qc qb V F T L tc n CH BE cd rf C1 C2 C3 dp) ++ ((wO G oo f) ++ (wMF G md fl V F T rf dp KR K KT))) H := hP
    have hD : va_D (lw_A s) ((wSC G ad qc qb V F T L tc n CH BE cd rf C1 C2 C3 dp) ++ ((wO G oo f) ++ (wMF G md fl V F T rf dp KR K KT))) := hD
    refine W.widen (k := 200 + 3 * (t + 1)) (n := 20000 + 5000 * (t + 1)) (show 200 + 3 * t + 1 ≤ 200 + 3 * (t + 1) by omega) (show 20000 + 5000 * t + 6 ≤ 20000 + 5000 * (t + 1) by omega) ?_
    refine lv_istore hx hb d_LW_law_330 hl (by decide) rfl (fun ls hl => ?_)
    have hl : lv_has ls 8 [(5, .int 1), (4, .int (nI (6 * t))), (3, .ref oo), (2, .ref (md 0)), (1, .ref (ad 0)), (0, .ref b)] := hl
    refine lv_aload_n hx hb d_LW_law_332 rfl (lv_at hl 3 rfl) ?_
    refine lv_aload_n hx hb d_LW_law_333 rfl (lv_at hl 5 rfl) ?_
    refine lv_iload hx hb d_LW_law_334 (lv_at hl 1 rfl) ?_
    refine lv_iconst (v := nI 1) hx hb d_LW_law_336 (by decide +kernel) ?_
    refine lv_iadd hx hb d_LW_law_337 ?_
    refine sx_topi (y := nI (6 * t + 1)) (nI_add _ _) ?_
    refine sx_sld (k := 6 * t + 1) C0 hX hbl (Nat.not_le.mpr hbl) hS (by omega) (by omega) rfl d_LW_law_338 ?_
    refine lv_aload_n hx hb d_LW_law_339 rfl (lv_at hl 5 rfl) ?_
    refine lv_iload hx hb d_LW_law_340 (lv_at hl 1 rfl) ?_
    refine lv_iconst (v := nI 2) hx hb d_LW_law_342 (by decide +kernel) ?_
    refine lv_iadd hx hb d_LW_law_343 ?_
    refine sx_topi (y := nI (6 * t + 2)) (nI_add _ _) ?_
    refine sx_sld (k := 6 * t + 2) C0 hX hbl (Nat.not_le.mpr hbl) hS (by omega) (by omega) rfl d_LW_law_344 ?_
    refine lv_aload_n hx hb d_LW_law_345 rfl (lv_at hl 5 rfl) ?_
    refine lv_iload hx hb d_LW_law_346 (lv_at hl 1 rfl) ?_
    refine lv_iconst (v := nI 3) hx hb d_LW_law_348 (by decide +kernel) ?_
    refine lv_iadd hx hb d_LW_law_349 ?_
    refine sx_topi (y := nI (6 * t + 3)) (nI_add _ _) ?_
    refine sx_sld (k := 6 * t + 3) C0 hX hbl (Nat.not_le.mpr hbl) hS (by omega) (by omega) rfl d_LW_law_350 ?_
    refine lv_i2l (v := (xs (6 * t + 3)).toInt64) hx hb d_LW_law_351 rfl ?_
    refine lv_bipush (v := 32) hx hb d_LW_law_352 (by decide) ?_
    refine lv_lshl (v := ((xs (6 * t + 3)).toInt64) <<< ((32 : Int32).toInt64 &&& 63)) hx hb d_LW_law_354 rfl ?_
    refine lv_aload_n hx hb d_LW_law_355 rfl (lv_at hl 5 rfl) ?_
    refine lv_iload hx hb d_LW_law_356 (lv_at hl 1 rfl) ?_
    refine lv_iconst (v := nI 4) hx hb d_LW_law_358 (by decide +kernel) ?_
    refine lv_iadd hx hb d_LW_law_359 ?_
    refine sx_topi (y := nI (6 * t + 4)) (nI_add _ _) ?_
    refine sx_sld (k := 6 * t + 4) C0 hX hbl (Nat.not_le.mpr hbl) hS (by omega) (by omega) rfl d_LW_law_360 ?_
    refine lv_i2l (v := (xs (6 * t + 4)).toInt64) hx hb d_LW_law_361 rfl ?_
    refine lv_ldc2 (v := 4294967295) hx hb C0.2.2.2.1 (C0.2.2.2.2.1.use sx_cl (Or.inl rfl) args) d_LW_law_362 ?_
    refine lv_land hx hb d_LW_law_365 ?_
    refine lv_lor hx hb d_LW_law_366 ?_
    refine sx_topl (y := v) hv.symm ?_
    refine lv_aload_n hx hb d_LW_law_367 rfl (lv_at hl 5 rfl) ?_
    refine lv_iload hx hb d_LW_law_368 (lv_at hl 1 rfl) ?_
    refine lv_iconst (v := nI 5) hx hb d_LW_law_370 (by decide +kernel) ?_
    refine lv_iadd hx hb d_LW_law_371 ?_
    refine sx_topi (y := nI (6 * t + 5)) (nI_add _ _) ?_
    refine sx_sld (k := 6 * t + 5) C0 hX hbl (Nat.not_le.mpr hbl) hS (by omega) (by omega) rfl d_LW_law_372 ?_
    refine sx_cV (As := [.int (xs (6 * t + 1)), .int (xs (6 * t + 2)), .long v, .int (xs (6 * t + 5))]) (rest := []) (wa := ((wSC G ad qc qb V F T L tc n CH BE cd rf C1 C2 C3 dp) ++ (wO G oo f))) (wb := (wMg G md KR ++ wMr G md K KT)) (k0 := 0) C0 (c_MD_store9 ho) q_LW_73 i_MD_store ⟨Nat.le_of_ble_eq_true rfl, Nat.le_of_ble_eq_true rfl⟩ rfl rfl rfl hP hD hS hA hl.1 rfl (Nat.le_of_ble_eq_true rfl) d_LW_law_373 ⟨(show 200 + 3 * (t + 1) + 0 ≤ 601024 by omega), (show 20000 + 5000 * (t + 1) + 0 ≤ 7293034 by omega)⟩ (fun r H locs hq hj hS => ?_)
    obtain ⟨rfl, hP1, hD1⟩ := hq
    obtain ⟨hP, hD⟩ := hj _ hP1 hD1
    have hP : va_P G.1 sx_cls ((wSC G ad qc qb V F T L tc n CH BE cd rf C1 C2 C3 dp) ++ ((wO G oo f) ++ (wMF G md 1 V F T rf dp KR K KT))) H := hP
    have hD : va_D (lw_A s) ((wSC G ad qc qb V F T L tc n CH BE cd rf C1 C2 C3 dp) ++ ((wO G oo f) ++ (wMF G md 1 V F T rf dp KR K KT))) := hD
    refine W.widen (k := 200 + 3 * (t + 1)) (n := 20000 + 5000 * (t + 1)) (Nat.le_refl _) (Nat.le_refl _) ?_
    refine lv_istore hx hb d_LW_law_376 hl (by decide) rfl (fun ls hl => ?_)
    have hl : lv_has ls 8 [(6, .int 0), (5, .int 1), (4, .int (nI (6 * t))), (3, .ref oo), (2, .ref (md 0)), (1, .ref (ad 0)), (0, .ref b)] := hl
    refine lv_aload_n hx hb d_LW_law_378 rfl (lv_at hl 4 rfl) ?_
    refine sx_cVP (As := []) (rest := []) (wc := (wM4 G md 1 V F T rf dp)) (k0 := 0) C0 c_MD_thrown q_LW_57 i_MD_thrown ⟨Nat.le_of_ble_eq_true rfl, Nat.le_of_ble_eq_true rfl⟩ rfl rfl rfl (sx_mid (wa := ((wSC G ad qc qb V F T L tc n CH BE cd rf C1 C2 C3 dp) ++ (wO G oo f))) (wc := (wM4 G md 1 V F T rf dp)) (wb := (wMg G md KR ++ wMr G md K KT)) hP) hl.1 rfl (Nat.zero_le _) d_LW_law_379 ⟨(show 200 + 3 * (t + 1) ≤ 601024 by omega), (show 20000 + 5000 * (t + 1) ≤ 7293034 by omega)⟩ ?_
    refine lv_iload hx hb d_LW_law_382 (lv_at hl 1 rfl) ?_
    refine lv_icmp_eq (tgt := 389) hx hb d_LW_law_384 (by decide) (fun _ => ?_) (fun z => absurd (rfl) z)
    refine lv_iload hx hb d_LW_law_389 (lv_at hl 1 rfl) ?_
    refine lv_if_ne (tgt := 406) hx hb d_LW_law_391 (by decide) (fun _ => ?_) (fun z => absurd z ((by decide)))
    refine lv_goto (tgt := 635) hx hb d_LW_law_406 (by decide) ?_
    exact kk ls H locs ⟨_, _, _, _, _, _, _, _, _, _, _, _, _, _, _, _, _, _, _, _, _, hinv, hn0, (by omega), (by omega), hP, hD, hS⟩ (lv_sub hl [2, 3, 4, 5, 6] rfl)
  · obtain ⟨a, b1, ha, hb1, e1, e2⟩ := p_out_not ho
    obtain ⟨v, hv⟩ : ∃ v : Int64, v = (xs (6 * t + 3)).toInt64 <<< ((32 : Int32).toInt64 &&& 63) ||| (xs (6 * t + 4)).toInt64 &&& 4294967295 := ⟨_, rfl⟩
    by_cases hg : xs (6 * t + 5) ≤ 2300 ∨ ¬ (p_cost (T (64 * a + b1)) (F (64 * a + b1)) (V (64 * a + b1)) v) ≤ xs (6 * t + 5)
    · skip
      refine lv_aload_n hx hb d_LW_law_285 rfl (lv_at hl 3 rfl) ?_
      refine lv_aload_n hx hb d_LW_law_286 rfl (lv_at hl 4 rfl) ?_
      refine lv_iload hx hb d_LW_law_287 (lv_at hl 0 rfl) ?_
      refine lv_iconst (v := nI 1) hx hb d_LW_law_289 (by decide +kernel) ?_
      refine lv_iadd hx hb d_LW_law_290 ?_
      refine sx_topi (y := nI (6 * t + 1)) (nI_add _ _) ?_
      refine sx_sld (k := 6 * t + 1) C0 hX hbl (Nat.not_le.mpr hbl) hS (by omega) (by omega) rfl d_LW_law_291 ?_
      refine sx_topi (y := nI a) e1 ?_
      refine lv_aload_n hx hb d_LW_law_292 rfl (lv_at hl 4 rfl) ?_
      refine lv_iload hx hb d_LW_law_293 (lv_at hl 0 rfl) ?_
      refine lv_iconst (v := nI 2) hx hb d_LW_law_295 (by decide +kernel) ?_
      refine lv_iadd hx hb d_LW_law_296 ?_
      refine sx_topi (y := nI (6 * t + 2)) (nI_add _ _) ?_
      refine sx_sld (k := 6 * t + 2) C0 hX hbl (Nat.not_le.mpr hbl) hS (by omega) (by omega) rfl d_LW_law_297 ?_
      refine sx_topi (y := nI b1) e2 ?_
      refine lv_aload_n hx hb d_LW_law_298 rfl (lv_at hl 4 rfl) ?_
      refine lv_iload hx hb d_LW_law_299 (lv_at hl 0 rfl) ?_
      refine lv_iconst (v := nI 3) hx hb d_LW_law_301 (by decide +kernel) ?_
      refine lv_iadd hx hb d_LW_law_302 ?_
      refine sx_topi (y := nI (6 * t + 3)) (nI_add _ _) ?_
      refine sx_sld (k := 6 * t + 3) C0 hX hbl (Nat.not_le.mpr hbl) hS (by omega) (by omega) rfl d_LW_law_303 ?_
      refine lv_i2l (v := (xs (6 * t + 3)).toInt64) hx hb d_LW_law_304 rfl ?_
      refine lv_bipush (v := 32) hx hb d_LW_law_305 (by decide) ?_
      refine lv_lshl (v := ((xs (6 * t + 3)).toInt64) <<< ((32 : Int32).toInt64 &&& 63)) hx hb d_LW_law_307 rfl ?_
      refine lv_aload_n hx hb d_LW_law_308 rfl (lv_at hl 4 rfl) ?_
      refine lv_iload hx hb d_LW_law_309 (lv_at hl 0 rfl) ?_
      refine lv_iconst (v := nI 4) hx hb d_LW_law_311 (by decide +kernel) ?_
      refine lv_iadd hx hb d_LW_law_312 ?_
      refine sx_topi (y := nI (6 * t + 4)) (nI_add _ _) ?_
      refine sx_sld (k := 6 * t + 4) C0 hX hbl (Nat.not_le.mpr hbl) hS (by omega) (by omega) rfl d_LW_law_313 ?_
      refine lv_i2l (v := (xs (6 * t + 4)).toInt64) hx hb d_LW_law_314 rfl ?_
      refine lv_ldc2 (v := 4294967295) hx hb C0.2.2.2.1 (C0.2.2.2.2.1.use sx_cl (Or.inl rfl) args) d_LW_law_315 ?_
      refine lv_land hx hb d_LW_law_318 ?_
      refine lv_lor hx hb d_LW_law_319 ?_
      refine sx_topl (y := v) hv.symm ?_
      refine lv_aload_n hx hb d_LW_law_320 rfl (lv_at hl 4 rfl) ?_
      refine lv_iload hx hb d_LW_law_321 (lv_at hl 0 rfl) ?_
      refine lv_iconst (v := nI 5) hx hb d_LW_law_323 (by decide +kernel) ?_
      refine lv_iadd hx hb d_LW_law_324 ?_
      refine sx_topi (y := nI (6 * t + 5)) (nI_add _ _) ?_
      refine sx_sld (k := 6 * t + 5) C0 hX hbl (Nat.not_le.mpr hbl) hS (by omega) (by omega) rfl d_LW_law_325 ?_
      refine lv_aload_n hx hb d_LW_law_326 rfl (lv_at hl 1 rfl) ?_
      refine sx_cSW (B := sx_TS) (As := [.ref (ad 0), .int (nI a), .int (nI b1), .long v, .int (xs (6 * t + 5)), .ref oo]) (rest := []) (wa := []) (wc := ((wSC G ad qc qb V F T L tc n CH BE cd rf C1 C2 C3 dp) ++ (wO G oo f))) (wb := (wMF G md fl V F T rf dp KR K KT)) C0 (x_LW_store2 hfl ha hb1 hg) (fun U g mk a h => h.same rfl rfl) q_LW_70 i_LW_store ⟨Nat.le_of_ble_eq_true rfl, Nat.le_of_ble_eq_true rfl⟩ rfl hP hD hS hA (fun U hU hW => hTS.ext hW (fun q hq => by rw [hU]; exact hS.2.1 q hq (Nat.not_le.mpr hq))) hl.1 rfl (Nat.zero_le _) d_LW_law_327 ⟨(show 200 + 3 * t + 1 ≤ 601024 by omega), (show 20000 + 5000 * t + 6 ≤ 7293034 by omega)⟩ (fun r H locs hq hj hS => ?_)
      obtain ⟨rfl, hP1, hD1⟩ := hq
      obtain ⟨hP, hD⟩ := hj _ hP1 hD1
      have hP : va_P G.1 sx_cls ((wSC G ad qc qb V F T L tc n CH BE cd rf C1 C2 C3 dp) ++ ((wO G oo f) ++ (wMF G md fl V F T rf dp KR K KT))) H := hP
      have hD : va_D (lw_A s) ((wSC G ad qc qb V F T L tc n CH BE cd rf C1 C2 C3 dp) ++ ((wO G oo f) ++ (wMF G md fl V F T rf dp KR K KT))) := hD
      refine W.widen (k := 200 + 3 * (t + 1)) (n := 20000 + 5000 * (t + 1)) (show 200 + 3 * t + 1 ≤ 200 + 3 * (t + 1) by omega) (show 20000 + 5000 * t + 6 ≤ 20000 + 5000 * (t + 1) by omega) ?_
      refine lv_istore hx hb d_LW_law_330 hl (by decide) rfl (fun ls hl => ?_)
      have hl : lv_has ls 8 [(5, .int 2), (4, .int (nI (6 * t))), (3, .ref oo), (2, .ref (md 0)), (1, .ref (ad 0)), (0, .ref b)] := hl
      refine lv_aload_n hx hb d_LW_law_332 rfl (lv_at hl 3 rfl) ?_
      refine lv_aload_n hx hb d_LW_law_333 rfl (lv_at hl 5 rfl) ?_
      refine lv_iload hx hb d_LW_law_334 (lv_at hl 1 rfl) ?_
      refine lv_iconst (v := nI 1) hx hb d_LW_law_336 (by decide +kernel) ?_
      refine lv_iadd hx hb d_LW_law_337 ?_
      refine sx_topi (y := nI (6 * t + 1)) (nI_add _ _) ?_
      refine sx_sld (k := 6 * t + 1) C0 hX hbl (Nat.not_le.mpr hbl) hS (by omega) (by omega) rfl d_LW_law_338 ?_
      refine sx_topi (y := nI a) e1 ?_
      refine lv_aload_n hx hb d_LW_law_339 rfl (lv_at hl 5 rfl) ?_
      refine lv_iload hx hb d_LW_law_340 (lv_at hl 1 rfl) ?_
      refine lv_iconst (v := nI 2) hx hb d_LW_law_342 (by decide +kernel) ?_
      refine lv_iadd hx hb d_LW_law_343 ?_
      refine sx_topi (y := nI (6 * t + 2)) (nI_add _ _) ?_
      refine sx_sld (k := 6 * t + 2) C0 hX hbl (Nat.not_le.mpr hbl) hS (by omega) (by omega) rfl d_LW_law_344 ?_
      refine sx_topi (y := nI b1) e2 ?_
      refine lv_aload_n hx hb d_LW_law_345 rfl (lv_at hl 5 rfl) ?_
      refine lv_iload hx hb d_LW_law_346 (lv_at hl 1 rfl) ?_
      refine lv_iconst (v := nI 3) hx hb d_LW_law_348 (by decide +kernel) ?_
      refine lv_iadd hx hb d_LW_law_349 ?_
      refine sx_topi (y := nI (6 * t + 3)) (nI_add _ _) ?_
      refine sx_sld (k := 6 * t + 3) C0 hX hbl (Nat.not_le.mpr hbl) hS (by omega) (by omega) rfl d_LW_law_350 ?_
      refine lv_i2l (v := (xs (6 * t + 3)).toInt64) hx hb d_LW_law_351 rfl ?_
      refine lv_bipush (v := 32) hx hb d_LW_law_352 (by decide) ?_
      refine lv_lshl (v := ((xs (6 * t + 3)).toInt64) <<< ((32 : Int32).toInt64 &&& 63)) hx hb d_LW_law_354 rfl ?_
      refine lv_aload_n hx hb d_LW_law_355 rfl (lv_at hl 5 rfl) ?_
      refine lv_iload hx hb d_LW_law_356 (lv_at hl 1 rfl) ?_
      refine lv_iconst (v := nI 4) hx hb d_LW_law_358 (by decide +kernel) ?_
      refine lv_iadd hx hb d_LW_law_359 ?_
      refine sx_topi (y := nI (6 * t + 4)) (nI_add _ _) ?_
      refine sx_sld (k := 6 * t + 4) C0 hX hbl (Nat.not_le.mpr hbl) hS (by omega) (by omega) rfl d_LW_law_360 ?_
      refine lv_i2l (v := (xs (6 * t + 4)).toInt64) hx hb d_LW_law_361 rfl ?_
      refine lv_ldc2 (v := 4294967295) hx hb C0.2.2.2.1 (C0.2.2.2.2.1.use sx_cl (Or.inl rfl) args) d_LW_law_362 ?_
      refine lv_land hx hb d_LW_law_365 ?_
      refine lv_lor hx hb d_LW_law_366 ?_
      refine sx_topl (y := v) hv.symm ?_
      refine lv_aload_n hx hb d_LW_law_367 rfl (lv_at hl 5 rfl) ?_
      refine lv_iload hx hb d_LW_law_368 (lv_at hl 1 rfl) ?_
      refine lv_iconst (v := nI 5) hx hb d_LW_law_370 (by decide +kernel) ?_
      refine lv_iadd hx hb d_LW_law_371 ?_
      refine sx_topi (y := nI (6 * t + 5)) (nI_add _ _) ?_
      refine sx_sld (k := 6 * t + 5) C0 hX hbl (Nat.not_le.mpr hbl) hS (by omega) (by omega) rfl d_LW_law_372 ?_
      refine sx_cV (As := [.int (nI a), .int (nI b1), .long v, .int (xs (6 * t + 5))]) (rest := []) (wa := ((wSC G ad qc qb V F T L tc n CH BE cd rf C1 C2 C3 dp) ++ (wO G oo f))) (wb := (wMg G md KR ++ wMr G md K KT)) (k0 := 0) C0 (c_MD_store2 ha hb1 hg) q_LW_73 i_MD_store ⟨Nat.le_of_ble_eq_true rfl, Nat.le_of_ble_eq_true rfl⟩ rfl rfl rfl hP hD hS hA hl.1 rfl (Nat.le_of_ble_eq_true rfl) d_LW_law_373 ⟨(show 200 + 3 * (t + 1) + 0 ≤ 601024 by omega), (show 20000 + 5000 * (t + 1) + 0 ≤ 7293034 by omega)⟩ (fun r H locs hq hj hS => ?_)
      obtain ⟨rfl, hP1, hD1⟩ := hq
      obtain ⟨hP, hD⟩ := hj _ hP1 hD1
      have hP : va_P G.1 sx_cls ((wSC G ad qc qb V F T L tc n CH BE cd rf C1 C2 C3 dp) ++ ((wO G oo f) ++ (wMF G md 2 V F T rf dp KR K KT))) H := hP
      have hD : va_D (lw_A s) ((wSC G ad qc qb V F T L tc n CH BE cd rf C1 C2 C3 dp) ++ ((wO G oo f) ++ (wMF G md 2 V F T rf dp KR K KT))) := hD
      refine W.widen (k := 200 + 3 * (t + 1)) (n := 20000 + 5000 * (t + 1)) (Nat.le_refl _) (Nat.le_refl _) ?_
      refine lv_istore hx hb d_LW_law_376 hl (by decide) rfl (fun ls hl => ?_)
      have hl : lv_has ls 8 [(6, .int 0), (5, .int 2), (4, .int (nI (6 * t))), (3, .ref oo), (2, .ref (md 0)), (1, .ref (ad 0)), (0, .ref b)] := hl
      refine lv_aload_n hx hb d_LW_law_378 rfl (lv_at hl 4 rfl) ?_
      refine sx_cVP (As := []) (rest := []) (wc := (wM4 G md 2 V F T rf dp)) (k0 := 0) C0 c_MD_thrown q_LW_57 i_MD_thrown ⟨Nat.le_of_ble_eq_true rfl, Nat.le_of_ble_eq_true rfl⟩ rfl rfl rfl (sx_mid (wa := ((wSC G ad qc qb V F T L tc n CH BE cd rf C1 C2 C3 dp) ++ (wO G oo f))) (wc := (wM4 G md 2 V F T rf dp)) (wb := (wMg G md KR ++ wMr G md K KT)) hP) hl.1 rfl (Nat.zero_le _) d_LW_law_379 ⟨(show 200 + 3 * (t + 1) ≤ 601024 by omega), (show 20000 + 5000 * (t + 1) ≤ 7293034 by omega)⟩ ?_
      refine lv_iload hx hb d_LW_law_382 (lv_at hl 1 rfl) ?_
      refine lv_icmp_eq (tgt := 389) hx hb d_LW_law_384 (by decide) (fun _ => ?_) (fun z => absurd (rfl) z)
      refine lv_iload hx hb d_LW_law_389 (lv_at hl 1 rfl) ?_
      refine lv_if_ne (tgt := 406) hx hb d_LW_law_391 (by decide) (fun _ => ?_) (fun z => absurd z ((by decide)))
      refine lv_goto (tgt := 635) hx hb d_LW_law_406 (by decide) ?_
      exact kk ls H locs ⟨_, _, _, _, _, _, _, _, _, _, _, _, _, _, _, _, _, _, _, _, _, hinv, hn0, (by omega), (by omega), hP, hD, hS⟩ (lv_sub hl [2, 3, 4, 5, 6] rfl)
    · have hg1 : ¬ xs (6 * t + 5) ≤ 2300 := fun z => hg (Or.inl z)
      have hg2 : (p_cost (T (64 * a + b1)) (F (64 * a + b1)) (V (64 * a + b1)) v) ≤ xs (6 * t + 5) := Classical.byContradiction (fun z => hg (Or.inr z))
      refine lv_aload_n hx hb d_LW_law_285 rfl (lv_at hl 3 rfl) ?_
      refine lv_aload_n hx hb d_LW_law_286 rfl (lv_at hl 4 rfl) ?_
      refine lv_iload hx hb d_LW_law_287 (lv_at hl 0 rfl) ?_
      refine lv_iconst (v := nI 1) hx hb d_LW_law_289 (by decide +kernel) ?_
      refine lv_iadd hx hb d_LW_law_290 ?_
      refine sx_topi (y := nI (6 * t + 1)) (nI_add _ _) ?_
      refine sx_sld (k := 6 * t + 1) C0 hX hbl (Nat.not_le.mpr hbl) hS (by omega) (by omega) rfl d_LW_law_291 ?_
      refine sx_topi (y := nI a) e1 ?_
      refine lv_aload_n hx hb d_LW_law_292 rfl (lv_at hl 4 rfl) ?_
      refine lv_iload hx hb d_LW_law_293 (lv_at hl 0 rfl) ?_
      refine lv_iconst (v := nI 2) hx hb d_LW_law_295 (by decide +kernel) ?_
      refine lv_iadd hx hb d_LW_law_296 ?_
      refine sx_topi (y := nI (6 * t + 2)) (nI_add _ _) ?_
      refine sx_sld (k := 6 * t + 2) C0 hX hbl (Nat.not_le.mpr hbl) hS (by omega) (by omega) rfl d_LW_law_297 ?_
      refine sx_topi (y := nI b1) e2 ?_
      refine lv_aload_n hx hb d_LW_law_298 rfl (lv_at hl 4 rfl) ?_
      refine lv_iload hx hb d_LW_law_299 (lv_at hl 0 rfl) ?_
      refine lv_iconst (v := nI 3) hx hb d_LW_law_301 (by decide +kernel) ?_
      refine lv_iadd hx hb d_LW_law_302 ?_
      refine sx_topi (y := nI (6 * t + 3)) (nI_add _ _) ?_
      refine sx_sld (k := 6 * t + 3) C0 hX hbl (Nat.not_le.mpr hbl) hS (by omega) (by omega) rfl d_LW_law_303 ?_
      refine lv_i2l (v := (xs (6 * t + 3)).toInt64) hx hb d_LW_law_304 rfl ?_
      refine lv_bipush (v := 32) hx hb d_LW_law_305 (by decide) ?_
      refine lv_lshl (v := ((xs (6 * t + 3)).toInt64) <<< ((32 : Int32).toInt64 &&& 63)) hx hb d_LW_law_307 rfl ?_
      refine lv_aload_n hx hb d_LW_law_308 rfl (lv_at hl 4 rfl) ?_
      refine lv_iload hx hb d_LW_law_309 (lv_at hl 0 rfl) ?_
      refine lv_iconst (v := nI 4) hx hb d_LW_law_311 (by decide +kernel) ?_
      refine lv_iadd hx hb d_LW_law_312 ?_
      refine sx_topi (y := nI (6 * t + 4)) (nI_add _ _) ?_
      refine sx_sld (k := 6 * t + 4) C0 hX hbl (Nat.not_le.mpr hbl) hS (by omega) (by omega) rfl d_LW_law_313 ?_
      refine lv_i2l (v := (xs (6 * t + 4)).toInt64) hx hb d_LW_law_314 rfl ?_
      refine lv_ldc2 (v := 4294967295) hx hb C0.2.2.2.1 (C0.2.2.2.2.1.use sx_cl (Or.inl rfl) args) d_LW_law_315 ?_
      refine lv_land hx hb d_LW_law_318 ?_
      refine lv_lor hx hb d_LW_law_319 ?_
      refine sx_topl (y := v) hv.symm ?_
      refine lv_aload_n hx hb d_LW_law_320 rfl (lv_at hl 4 rfl) ?_
      refine lv_iload hx hb d_LW_law_321 (lv_at hl 0 rfl) ?_
      refine lv_iconst (v := nI 5) hx hb d_LW_law_323 (by decide +kernel) ?_
      refine lv_iadd hx hb d_LW_law_324 ?_
      refine sx_topi (y := nI (6 * t + 5)) (nI_add _ _) ?_
      refine sx_sld (k := 6 * t + 5) C0 hX hbl (Nat.not_le.mpr hbl) hS (by omega) (by omega) rfl d_LW_law_325 ?_
      refine lv_aload_n hx hb d_LW_law_326 rfl (lv_at hl 1 rfl) ?_
      refine sx_cSW (B := (fun _ => True)) (As := [.ref (ad 0), .int (nI a), .int (nI b1), .long v, .int (xs (6 * t + 5)), .ref oo]) (rest := []) (wa := []) (wc := ((wSC G ad qc qb V F T L tc n CH BE cd rf C1 C2 C3 dp) ++ (wO G oo f))) (wb := (wMF G md fl V F T rf dp KR K KT)) C0 (c_LW_store ha hb1 (fun h => p_tl_room hinv.1 (show 64 * a + b1 < 256 by omega) h) hcn hn0 (by omega) hg1 hg2) (fun _ _ _ _ _ => trivial) q_LW_70 i_LW_store ⟨Nat.le_of_ble_eq_true rfl, Nat.le_of_ble_eq_true rfl⟩ rfl hP hD hS hA (fun _ _ _ => trivial) hl.1 rfl (Nat.zero_le _) d_LW_law_327 ⟨(show 200 + 3 * t + 2 ≤ 601024 by omega), (show 20000 + 5000 * t + 4 * n ≤ 7293034 by omega)⟩ (fun r H locs hq hj hS => ?_)
      obtain ⟨qc', qb', n', cd', tc', V', T', L', CH', BE', rf', rfl, htch, hsto, hP1, hD1⟩ := hq
      obtain ⟨hP, hD⟩ := hj _ hP1 hD1
      have hP : va_P G.1 sx_cls ((wSC G ad qc' qb' V' F T' L' tc' n' CH' BE' cd' rf' C1 C2 C3 dp) ++ ((wO G oo (fun _ => (p_cost (T (64 * a + b1)) (F (64 * a + b1)) (V (64 * a + b1)) v).toInt64)) ++ (wMF G md fl V F T rf dp KR K KT))) H := hP
      have hD : va_D (lw_A s) ((wSC G ad qc' qb' V' F T' L' tc' n' CH' BE' cd' rf' C1 C2 C3 dp) ++ ((wO G oo (fun _ => (p_cost (T (64 * a + b1)) (F (64 * a + b1)) (V (64 * a + b1)) v).toInt64)) ++ (wMF G md fl V F T rf dp KR K KT))) := hD
      refine W.widen (k := 200 + 3 * (t + 1)) (n := 20000 + 5000 * (t + 1)) (show 200 + 3 * t + 2 ≤ 200 + 3 * (t + 1) by omega) (show 20000 + 5000 * t + 4 * n ≤ 20000 + 5000 * (t + 1) by omega) ?_
      refine lv_istore hx hb d_LW_law_330 hl (by decide) rfl (fun ls hl => ?_)
      have hl : lv_has ls 8 [(5, .int 0), (4, .int (nI (6 * t))), (3, .ref oo), (2, .ref (md 0)), (1, .ref (ad 0)), (0, .ref b)] := hl
      refine lv_aload_n hx hb d_LW_law_332 rfl (lv_at hl 3 rfl) ?_
      refine lv_aload_n hx hb d_LW_law_333 rfl (lv_at hl 5 rfl) ?_
      refine lv_iload hx hb d_LW_law_334 (lv_at hl 1 rfl) ?_
      refine lv_iconst (v := nI 1) hx hb d_LW_law_336 (by decide +kernel) ?_
      refine lv_iadd hx hb d_LW_law_337 ?_
      refine sx_topi (y := nI (6 * t + 1)) (nI_add _ _) ?_
      refine sx_sld (k := 6 * t + 1) C0 hX hbl (Nat.not_le.mpr hbl) hS (by omega) (by omega) rfl d_LW_law_338 ?_
      refine sx_topi (y := nI a) e1 ?_
      refine lv_aload_n hx hb d_LW_law_339 rfl (lv_at hl 5 rfl) ?_
      refine lv_iload hx hb d_LW_law_340 (lv_at hl 1 rfl) ?_
      refine lv_iconst (v := nI 2) hx hb d_LW_law_342 (by decide +kernel) ?_
      refine lv_iadd hx hb d_LW_law_343 ?_
      refine sx_topi (y := nI (6 * t + 2)) (nI_add _ _) ?_
      refine sx_sld (k := 6 * t + 2) C0 hX hbl (Nat.not_le.mpr hbl) hS (by omega) (by omega) rfl d_LW_law_344 ?_
      refine sx_topi (y := nI b1) e2 ?_
      refine lv_aload_n hx hb d_LW_law_345 rfl (lv_at hl 5 rfl) ?_
      refine lv_iload hx hb d_LW_law_346 (lv_at hl 1 rfl) ?_
      refine lv_iconst (v := nI 3) hx hb d_LW_law_348 (by decide +kernel) ?_
      refine lv_iadd hx hb d_LW_law_349 ?_
      refine sx_topi (y := nI (6 * t + 3)) (nI_add _ _) ?_
      refine sx_sld (k := 6 * t + 3) C0 hX hbl (Nat.not_le.mpr hbl) hS (by omega) (by omega) rfl d_LW_law_350 ?_
      refine lv_i2l (v := (xs (6 * t + 3)).toInt64) hx hb d_LW_law_351 rfl ?_
      refine lv_bipush (v := 32) hx hb d_LW_law_352 (by decide) ?_
      refine lv_lshl (v := ((xs (6 * t + 3)).toInt64) <<< ((32 : Int32).toInt64 &&& 63)) hx hb d_LW_law_354 rfl ?_
      refine lv_aload_n hx hb d_LW_law_355 rfl (lv_at hl 5 rfl) ?_
      refine lv_iload hx hb d_LW_law_356 (lv_at hl 1 rfl) ?_
      refine lv_iconst (v := nI 4) hx hb d_LW_law_358 (by decide +kernel) ?_
      refine lv_iadd hx hb d_LW_law_359 ?_
      refine sx_topi (y := nI (6 * t + 4)) (nI_add _ _) ?_
      refine sx_sld (k := 6 * t + 4) C0 hX hbl (Nat.not_le.mpr hbl) hS (by omega) (by omega) rfl d_LW_law_360 ?_
      refine lv_i2l (v := (xs (6 * t + 4)).toInt64) hx hb d_LW_law_361 rfl ?_
      refine lv_ldc2 (v := 4294967295) hx hb C0.2.2.2.1 (C0.2.2.2.2.1.use sx_cl (Or.inl rfl) args) d_LW_law_362 ?_
      refine lv_land hx hb d_LW_law_365 ?_
      refine lv_lor hx hb d_LW_law_366 ?_
      refine sx_topl (y := v) hv.symm ?_
      refine lv_aload_n hx hb d_LW_law_367 rfl (lv_at hl 5 rfl) ?_
      refine lv_iload hx hb d_LW_law_368 (lv_at hl 1 rfl) ?_
      refine lv_iconst (v := nI 5) hx hb d_LW_law_370 (by decide +kernel) ?_
      refine lv_iadd hx hb d_LW_law_371 ?_
      refine sx_topi (y := nI (6 * t + 5)) (nI_add _ _) ?_
      refine sx_sld (k := 6 * t + 5) C0 hX hbl (Nat.not_le.mpr hbl) hS (by omega) (by omega) rfl d_LW_law_372 ?_
      refine sx_cV (As := [.int (nI a), .int (nI b1), .long v, .int (xs (6 * t + 5))]) (rest := []) (wa := ((wSC G ad qc' qb' V' F T' L' tc' n' CH' BE' cd' rf' C1 C2 C3 dp) ++ (wO G oo (fun _ => (p_cost (T (64 * a + b1)) (F (64 * a + b1)) (V (64 * a + b1)) v).toInt64)))) (wb := (wMg G md KR ++ wMr G md K KT)) (k0 := 0) C0 (c_MD_store0 ha hb1 hg1 hg2) q_LW_73 i_MD_store ⟨Nat.le_of_ble_eq_true rfl, Nat.le_of_ble_eq_true rfl⟩ rfl rfl rfl hP hD hS hA hl.1 rfl (Nat.le_of_ble_eq_true rfl) d_LW_law_373 ⟨(show 200 + 3 * (t + 1) + 0 ≤ 601024 by omega), (show 20000 + 5000 * (t + 1) + 0 ≤ 7293034 by omega)⟩ (fun r H locs hq hj hS => ?_)
      obtain ⟨rfl, hP1, hD1⟩ := hq
      obtain ⟨hP, hD⟩ := hj _ hP1 hD1
      have hP : va_P G.1 sx_cls ((wSC G ad qc' qb' V' F T' L' tc' n' CH' BE' cd' rf' C1 C2 C3 dp) ++ ((wO G oo (fun _ => (p_cost (T (64 * a + b1)) (F (64 * a + b1)) (V (64 * a + b1)) v).toInt64)) ++ (wMF G md 0 (vp_updL V (64 * a + b1) v) F (upd T (64 * a + b1) 1) (rf + (p_given (F (64 * a + b1)) (V (64 * a + b1)) v)) dp KR K KT))) H := hP
      have hD : va_D (lw_A s) ((wSC G ad qc' qb' V' F T' L' tc' n' CH' BE' cd' rf' C1 C2 C3 dp) ++ ((wO G oo (fun _ => (p_cost (T (64 * a + b1)) (F (64 * a + b1)) (V (64 * a + b1)) v).toInt64)) ++ (wMF G md 0 (vp_updL V (64 * a + b1) v) F (upd T (64 * a + b1) 1) (rf + (p_given (F (64 * a + b1)) (V (64 * a + b1)) v)) dp KR K KT))) := hD
      refine W.widen (k := 200 + 3 * (t + 1)) (n := 20000 + 5000 * (t + 1)) (Nat.le_refl _) (Nat.le_refl _) ?_
      refine lv_istore hx hb d_LW_law_376 hl (by decide) rfl (fun ls hl => ?_)
      have hl : lv_has ls 8 [(6, .int (p_cost (T (64 * a + b1)) (F (64 * a + b1)) (V (64 * a + b1)) v)), (5, .int 0), (4, .int (nI (6 * t))), (3, .ref oo), (2, .ref (md 0)), (1, .ref (ad 0)), (0, .ref b)] := hl
      refine lv_aload_n hx hb d_LW_law_378 rfl (lv_at hl 4 rfl) ?_
      refine sx_cVP (As := []) (rest := []) (wc := (wM4 G md 0 (vp_updL V (64 * a + b1) v) F (upd T (64 * a + b1) 1) (rf + (p_given (F (64 * a + b1)) (V (64 * a + b1)) v)) dp)) (k0 := 0) C0 c_MD_thrown q_LW_57 i_MD_thrown ⟨Nat.le_of_ble_eq_true rfl, Nat.le_of_ble_eq_true rfl⟩ rfl rfl rfl (sx_mid (wa := ((wSC G ad qc' qb' V' F T' L' tc' n' CH' BE' cd' rf' C1 C2 C3 dp) ++ (wO G oo (fun _ => (p_cost (T (64 * a + b1)) (F (64 * a + b1)) (V (64 * a + b1)) v).toInt64)))) (wc := (wM4 G md 0 (vp_updL V (64 * a + b1) v) F (upd T (64 * a + b1) 1) (rf + (p_given (F (64 * a + b1)) (V (64 * a + b1)) v)) dp)) (wb := (wMg G md KR ++ wMr G md K KT)) hP) hl.1 rfl (Nat.zero_le _) d_LW_law_379 ⟨(show 200 + 3 * (t + 1) ≤ 601024 by omega), (show 20000 + 5000 * (t + 1) ≤ 7293034 by omega)⟩ ?_
      refine lv_iload hx hb d_LW_law_382 (lv_at hl 1 rfl) ?_
      refine lv_icmp_eq (tgt := 389) hx hb d_LW_law_384 (by decide) (fun _ => ?_) (fun z => absurd (rfl) z)
      refine lv_iload hx hb d_LW_law_389 (lv_at hl 1 rfl) ?_
      refine lv_if_ne (tgt := 406) hx hb d_LW_law_391 (by decide) (fun z => absurd (rfl) z) (fun _ => ?_)
      refine lv_aload_n hx hb d_LW_law_394 rfl (lv_at hl 3 rfl) ?_
      refine lv_iconst (v := 0) hx hb d_LW_law_395 (by decide) ?_
      refine sx_lald (i := 0) (v := (p_cost (T (64 * a + b1)) (F (64 * a + b1)) (V (64 * a + b1)) v).toInt64) C0 hP 11 rfl rfl (by decide) (by decide) rfl d_LW_law_396 ?_
      refine lv_iload hx hb d_LW_law_397 (lv_at hl 0 rfl) ?_
      refine lv_i2l (v := (p_cost (T (64 * a + b1)) (F (64 * a + b1)) (V (64 * a + b1)) v).toInt64) hx hb d_LW_law_399 rfl ?_
      refine sx_lifeq (tgt := 406) C0 d_LW_law_400 d_LW_law_401 (by decide) (fun _ => ?_) (fun z => absurd rfl z)
      refine lv_goto (tgt := 635) hx hb d_LW_law_406 (by decide) ?_
      obtain ⟨hinv, rfl⟩ := p_inv_tch hinv (show 64 * a + b1 < 256 by omega) htch
      obtain ⟨hinv, rfl, rfl, hcd2, hnn⟩ := p_inv_sto hinv hn0 (show 64 * a + b1 < 256 by omega) hsto
      have hn1 : 0 < n' := by omega
      exact kk ls H locs ⟨_, _, _, _, _, _, _, _, _, _, _, _, _, _, _, _, _, _, _, _, _, hinv, hn1, (by omega), (by omega), hP, hD, hS⟩ (lv_sub hl [2, 3, 4, 5, 6] rfl)
end SO2
end
section
/-! the law: held, touched, count -/
section SO3
variable {p : Program} {l : Launch} {e : Env} {s : State} {m : MethodId} {args : Array Value} {below : List Frame} {meth : Method} {c : Code} {H : Heap} {locs : List Loc} {Q : State → Prop} {G : sx_G} {ls : Array Slot} {ad md : Nat → Nat} {oo b LN t : Nat} {xs : Nat → Int32}
set_option maxRecDepth 20000 in
theorem law_op5 (C0 : sx_C p s m c code 8 sx_LW G) (hfl : l.flags = flags0) (hTS : sx_TS s) (hX : va_X b LN xs s s.heap) (hbl : b < s.heap.size) (hLN : LN ≤ 3072) (ht : 6 * t + 6 ≤ LN) (hSt : lw_St G ad md oo s t H locs) (hl : lv_has ls 8 [(4, .int (nI (6 * t))), (3, .ref oo), (2, .ref (md 0)), (1, .ref (ad 0)), (0, .ref b)])
    (kk : ∀ (ls : Array Slot) (H : Heap) (locs : List Loc), lw_St G ad md oo s (t + 1) H locs → lv_has ls 8 [(4, .int (nI (6 * t))), (3, .ref oo), (2, .ref (md 0)), (1, .ref (ad 0)), (0, .ref b)] → W p l e room_1 s m args below meth c H locs (200 + 3 * (t + 1)) (20000 + 5000 * (t + 1)) Q (F0 m 635 ls [])) :
    W p l e room_1 s m args below meth c H locs (200 + 3 * t) (20000 + 5000 * t) Q (F0 m 409 ls []) := by
  have hx := C0.1
  have hb := C0.2.1
  have hA : ∀ q, s.heap.size ≤ q → lw_A s q := fun _ h => h
  obtain ⟨qc, qb, V, F, T, L, tc, n, CH, BE, cd, rf, C1, C2, C3, dp, f, fl, KR, K, KT, hinv, hn0, hn, hcd, hP, hD, hS⟩ := hSt
  have htc : tc ≤ 256 := p_tl_le hinv.1
  have hdp : dp ≤ 30 := hinv.2.2.2.1
  have hcn : cd ≤ n := hinv.2.2.1
  have hz : ∀ j, T j = 0 ∨ T j = 1 := p_tl_bool hinv.1
  by_cases ho : p_out (xs (6 * t + 1)) (xs (6 * t + 2))
  · by_cases hs : xs (6 * t + 3) = 0
    · skip
      refine lv_aload_n hx hb d_LW_law_409 rfl (lv_at hl 3 rfl) ?_
      refine lv_aload_n hx hb d_LW_law_410 rfl (lv_at hl 4 rfl) ?_
      refine lv_iload hx hb d_LW_law_411 (lv_at hl 0 rfl) ?_
      refine lv_iconst (v := nI 1) hx hb d_LW_law_413 (by decide +kernel) ?_
      refine lv_iadd hx hb d_LW_law_414 ?_
      refine sx_topi (y := nI (6 * t + 1)) (nI_add _ _) ?_
      refine sx_sld (k := 6 * t + 1) C0 hX hbl (Nat.not_le.mpr hbl) hS (by omega) (by omega) rfl d_LW_law_415 ?_
      refine lv_aload_n hx hb d_LW_law_416 rfl (lv_at hl 4 rfl) ?_
      refine lv_iload hx hb d_LW_law_417 (lv_at hl 0 rfl) ?_
      refine lv_iconst (v := nI 2) hx hb d_LW_law_419 (by decide +kernel) ?_
      refine lv_iadd hx hb d_LW_law_420 ?_
      refine sx_topi (y := nI (6 * t + 2)) (nI_add _ _) ?_
      refine sx_sld (k := 6 * t + 2) C0 hX hbl (Nat.not_le.mpr hbl) hS (by omega) (by omega) rfl d_LW_law_421 ?_
      refine lv_aload_n hx hb d_LW_law_422 rfl (lv_at hl 4 rfl) ?_
      refine lv_iload hx hb d_LW_law_423 (lv_at hl 0 rfl) ?_
      refine lv_iconst (v := nI 3) hx hb d_LW_law_425 (by decide +kernel) ?_
      refine lv_iadd hx hb d_LW_law_426 ?_
      refine sx_topi (y := nI (6 * t + 3)) (nI_add _ _) ?_
      refine sx_sld (k := 6 * t + 3) C0 hX hbl (Nat.not_le.mpr hbl) hS (by omega) (by omega) rfl d_LW_law_427 ?_
      refine lv_if_eq (tgt := 435) hx hb d_LW_law_428 (by decide) (fun _ => ?_) (fun z => absurd (hs) z)
      refine lv_iconst (v := 0) hx hb d_LW_law_435 (by decide) ?_
      refine lv_aload_n hx hb d_LW_law_436 rfl (lv_at hl 1 rfl) ?_
      refine sx_cSW (B := sx_TS) (As := [.ref (ad 0), .int (xs (6 * t + 1)), .int (xs (6 * t + 2)), .int 0, .ref oo]) (rest := []) (wa := []) (wc := ((wSC G ad qc qb V F T L tc n CH BE cd rf C1 C2 C3 dp) ++ (wO G oo f))) (wb := (wMF G md fl V F T rf dp KR K KT)) C0 (x_LW_held hfl ho) (fun U g mk a h => h.same rfl rfl) q_LW_74 i_LW_held ⟨Nat.le_of_ble_eq_true rfl, Nat.le_of_ble_eq_true rfl⟩ rfl hP hD hS hA (fun U hU hW => hTS.ext hW (fun q hq => by rw [hU]; exact hS.2.1 q hq (Nat.not_le.mpr hq))) hl.1 rfl (Nat.zero_le _) d_LW_law_437 ⟨(show 200 + 3 * t + 1 ≤ 601024 by omega), (show 20000 + 5000 * t + 6 ≤ 7293034 by omega)⟩ (fun r H locs hq hj hS => ?_)
      obtain ⟨rfl, hP1, hD1⟩ := hq
      obtain ⟨hP, hD⟩ := hj _ hP1 hD1
      have hP : va_P G.1 sx_cls ((wSC G ad qc qb V F T L tc n CH BE cd rf C1 C2 C3 dp) ++ ((wO G oo f) ++ (wMF G md fl V F T rf dp KR K KT))) H := hP
      have hD : va_D (lw_A s) ((wSC G ad qc qb V F T L tc n CH BE cd rf C1 C2 C3 dp) ++ ((wO G oo f) ++ (wMF G md fl V F T rf dp KR K KT))) := hD
      refine W.widen (k := 200 + 3 * (t + 1)) (n := 20000 + 5000 * (t + 1)) (show 200 + 3 * t + 1 ≤ 200 + 3 * (t + 1) by omega) (show 20000 + 5000 * t + 6 ≤ 20000 + 5000 * (t + 1) by omega) ?_
      refine lv_istore hx hb d_LW_law_440 hl (by decide) rfl (fun ls hl => ?_)
      have hl : lv_has ls 8 [(5, .int 1), (4, .int (nI (6 * t))), (3, .ref oo), (2, .ref (md 0)), (1, .ref (ad 0)), (0, .ref b)] := hl
      refine lv_aload_n hx hb d_LW_law_442 rfl (lv_at hl 3 rfl) ?_
      refine lv_aload_n hx hb d_LW_law_443 rfl (lv_at hl 5 rfl) ?_
      refine lv_iload hx hb d_LW_law_444 (lv_at hl 1 rfl) ?_
      refine lv_iconst (v := nI 1) hx hb d_LW_law_446 (by decide +kernel) ?_
      refine lv_iadd hx hb d_LW_law_447 ?_
      refine sx_topi (y := nI (6 * t + 1)) (nI_add _ _) ?_
      refine sx_sld (k := 6 * t + 1) C0 hX hbl (Nat.not_le.mpr hbl) hS (by omega) (by omega) rfl d_LW_law_448 ?_
      refine lv_aload_n hx hb d_LW_law_449 rfl (lv_at hl 5 rfl) ?_
      refine lv_iload hx hb d_LW_law_450 (lv_at hl 1 rfl) ?_
      refine lv_iconst (v := nI 2) hx hb d_LW_law_452 (by decide +kernel) ?_
      refine lv_iadd hx hb d_LW_law_453 ?_
      refine sx_topi (y := nI (6 * t + 2)) (nI_add _ _) ?_
      refine sx_sld (k := 6 * t + 2) C0 hX hbl (Nat.not_le.mpr hbl) hS (by omega) (by omega) rfl d_LW_law_454 ?_
      refine lv_aload_n hx hb d_LW_law_455 rfl (lv_at hl 5 rfl) ?_
      refine lv_iload hx hb d_LW_law_456 (lv_at hl 1 rfl) ?_
      refine lv_iconst (v := nI 3) hx hb d_LW_law_458 (by decide +kernel) ?_
      refine lv_iadd hx hb d_LW_law_459 ?_
      refine sx_topi (y := nI (6 * t + 3)) (nI_add _ _) ?_
      refine sx_sld (k := 6 * t + 3) C0 hX hbl (Nat.not_le.mpr hbl) hS (by omega) (by omega) rfl d_LW_law_460 ?_
      refine lv_if_eq (tgt := 468) hx hb d_LW_law_461 (by decide) (fun _ => ?_) (fun z => absurd (hs) z)
      refine lv_iconst (v := 0) hx hb d_LW_law_468 (by decide) ?_
      refine sx_cV (As := [.int (xs (6 * t + 1)), .int (xs (6 * t + 2)), .int 0]) (rest := []) (wa := ((wSC G ad qc qb V F T L tc n CH BE cd rf C1 C2 C3 dp) ++ (wO G oo f))) (wb := (wMg G md KR ++ wMr G md K KT)) (k0 := 0) C0 (c_MD_held9 ho) q_LW_77 i_MD_held ⟨Nat.le_of_ble_eq_true rfl, Nat.le_of_ble_eq_true rfl⟩ rfl rfl rfl hP hD hS hA hl.1 rfl (Nat.le_of_ble_eq_true rfl) d_LW_law_469 ⟨(show 200 + 3 * (t + 1) + 0 ≤ 601024 by omega), (show 20000 + 5000 * (t + 1) + 0 ≤ 7293034 by omega)⟩ (fun r H locs hq hj hS => ?_)
      obtain ⟨rfl, hP1, hD1⟩ := hq
      obtain ⟨hP, hD⟩ := hj _ hP1 hD1
      have hP : va_P G.1 sx_cls ((wSC G ad qc qb V F T L tc n CH BE cd rf C1 C2 C3 dp) ++ ((wO G oo f) ++ (wMF G md 1 V F T rf dp KR K KT))) H := hP
      have hD : va_D (lw_A s) ((wSC G ad qc qb V F T L tc n CH BE cd rf C1 C2 C3 dp) ++ ((wO G oo f) ++ (wMF G md 1 V F T rf dp KR K KT))) := hD
      refine W.widen (k := 200 + 3 * (t + 1)) (n := 20000 + 5000 * (t + 1)) (Nat.le_refl _) (Nat.le_refl _) ?_
      refine lv_lstore hx hb d_LW_law_472 hl (by decide) rfl (fun ls hl => ?_)
      have hl : lv_has ls 8 [(6, .long 0), (5, .int 1), (4, .int (nI (6 * t))), (3, .ref oo), (2, .ref (md 0)), (1, .ref (ad 0)), (0, .ref b)] := hl
      refine lv_aload_n hx hb d_LW_law_474 rfl (lv_at hl 4 rfl) ?_
      refine sx_cVP (As := []) (rest := []) (wc := (wM4 G md 1 V F T rf dp)) (k0 := 0) C0 c_MD_thrown q_LW_57 i_MD_thrown ⟨Nat.le_of_ble_eq_true rfl, Nat.le_of_ble_eq_true rfl⟩ rfl rfl rfl (sx_mid (wa := ((wSC G ad qc qb V F T L tc n CH BE cd rf C1 C2 C3 dp) ++ (wO G oo f))) (wc := (wM4 G md 1 V F T rf dp)) (wb := (wMg G md KR ++ wMr G md K KT)) hP) hl.1 rfl (Nat.zero_le _) d_LW_law_475 ⟨(show 200 + 3 * (t + 1) ≤ 601024 by omega), (show 20000 + 5000 * (t + 1) ≤ 7293034 by omega)⟩ ?_
      refine lv_iload hx hb d_LW_law_478 (lv_at hl 1 rfl) ?_
      refine lv_icmp_eq (tgt := 485) hx hb d_LW_law_480 (by decide) (fun _ => ?_) (fun z => absurd (rfl) z)
      refine lv_iload hx hb d_LW_law_485 (lv_at hl 1 rfl) ?_
      refine lv_if_ne (tgt := 501) hx hb d_LW_law_487 (by decide) (fun _ => ?_) (fun z => absurd z ((by decide)))
      refine lv_goto (tgt := 635) hx hb d_LW_law_501 (by decide) ?_
      exact kk ls H locs ⟨_, _, _, _, _, _, _, _, _, _, _, _, _, _, _, _, _, _, _, _, _, hinv, hn0, (by omega), (by omega), hP, hD, hS⟩ (lv_sub hl [2, 3, 4, 5, 6] rfl)
    · skip
      refine lv_aload_n hx hb d_LW_law_409 rfl (lv_at hl 3 rfl) ?_
      refine lv_aload_n hx hb d_LW_law_410 rfl (lv_at hl 4 rfl) ?_
      refine lv_iload hx hb d_LW_law_411 (lv_at hl 0 rfl) ?_
      refine lv_iconst (v := nI 1) hx hb d_LW_law_413 (by decide +kernel) ?_
      refine lv_iadd hx hb d_LW_law_414 ?_
      refine sx_topi (y := nI (6 * t + 1)) (nI_add _ _) ?_
      refine sx_sld (k := 6 * t + 1) C0 hX hbl (Nat.not_le.mpr hbl) hS (by omega) (by omega) rfl d_LW_law_415 ?_
      refine lv_aload_n hx hb d_LW_law_416 rfl (lv_at hl 4 rfl) ?_
      refine lv_iload hx hb d_LW_law_417 (lv_at hl 0 rfl) ?_
      refine lv_iconst (v := nI 2) hx hb d_LW_law_419 (by decide +kernel) ?_
      refine lv_iadd hx hb d_LW_law_420 ?_
      refine sx_topi (y := nI (6 * t + 2)) (nI_add _ _) ?_
      refine sx_sld (k := 6 * t + 2) C0 hX hbl (Nat.not_le.mpr hbl) hS (by omega) (by omega) rfl d_LW_law_421 ?_
      refine lv_aload_n hx hb d_LW_law_422 rfl (lv_at hl 4 rfl) ?_
      refine lv_iload hx hb d_LW_law_423 (lv_at hl 0 rfl) ?_
      refine lv_iconst (v := nI 3) hx hb d_LW_law_425 (by decide +kernel) ?_
      refine lv_iadd hx hb d_LW_law_426 ?_
      refine sx_topi (y := nI (6 * t + 3)) (nI_add _ _) ?_
      refine sx_sld (k := 6 * t + 3) C0 hX hbl (Nat.not_le.mpr hbl) hS (by omega) (by omega) rfl d_LW_law_427 ?_
      refine lv_if_eq (tgt := 435) hx hb d_LW_law_428 (by decide) (fun z => absurd z (hs)) (fun _ => ?_)
      refine lv_iconst (v := 1) hx hb d_LW_law_431 (by decide) ?_
      refine lv_goto (tgt := 436) hx hb d_LW_law_432 (by decide) ?_
      refine lv_aload_n hx hb d_LW_law_436 rfl (lv_at hl 1 rfl) ?_
      refine sx_cSW (B := sx_TS) (As := [.ref (ad 0), .int (xs (6 * t + 1)), .int (xs (6 * t + 2)), .int 1, .ref oo]) (rest := []) (wa := []) (wc := ((wSC G ad qc qb V F T L tc n CH BE cd rf C1 C2 C3 dp) ++ (wO G oo f))) (wb := (wMF G md fl V F T rf dp KR K KT)) C0 (x_LW_held hfl ho) (fun U g mk a h => h.same rfl rfl) q_LW_74 i_LW_held ⟨Nat.le_of_ble_eq_true rfl, Nat.le_of_ble_eq_true rfl⟩ rfl hP hD hS hA (fun U hU hW => hTS.ext hW (fun q hq => by rw [hU]; exact hS.2.1 q hq (Nat.not_le.mpr hq))) hl.1 rfl (Nat.zero_le _) d_LW_law_437 ⟨(show 200 + 3 * t + 1 ≤ 601024 by omega), (show 20000 + 5000 * t + 6 ≤ 7293034 by omega)⟩ (fun r H locs hq hj hS => ?_)
      obtain ⟨rfl, hP1, hD1⟩ := hq
      obtain ⟨hP, hD⟩ := hj _ hP1 hD1
      have hP : va_P G.1 sx_cls ((wSC G ad qc qb V F T L tc n CH BE cd rf C1 C2 C3 dp) ++ ((wO G oo f) ++ (wMF G md fl V F T rf dp KR K KT))) H := hP
      have hD : va_D (lw_A s) ((wSC G ad qc qb V F T L tc n CH BE cd rf C1 C2 C3 dp) ++ ((wO G oo f) ++ (wMF G md fl V F T rf dp KR K KT))) := hD
      refine W.widen (k := 200 + 3 * (t + 1)) (n := 20000 + 5000 * (t + 1)) (show 200 + 3 * t + 1 ≤ 200 + 3 * (t + 1) by omega) (show 20000 + 5000 * t + 6 ≤ 20000 + 5000 * (t + 1) by omega) ?_
      refine lv_istore hx hb d_LW_law_440 hl (by decide) rfl (fun ls hl => ?_)
      have hl : lv_has ls 8 [(5, .int 1), (4, .int (nI (6 * t))), (3, .ref oo), (2, .ref (md 0)), (1, .ref (ad 0)), (0, .ref b)] := hl
      refine lv_aload_n hx hb d_LW_law_442 rfl (lv_at hl 3 rfl) ?_
      refine lv_aload_n hx hb d_LW_law_443 rfl (lv_at hl 5 rfl) ?_
      refine lv_iload hx hb d_LW_law_444 (lv_at hl 1 rfl) ?_
      refine lv_iconst (v := nI 1) hx hb d_LW_law_446 (by decide +kernel) ?_
      refine lv_iadd hx hb d_LW_law_447 ?_
      refine sx_topi (y := nI (6 * t + 1)) (nI_add _ _) ?_
      refine sx_sld (k := 6 * t + 1) C0 hX hbl (Nat.not_le.mpr hbl) hS (by omega) (by omega) rfl d_LW_law_448 ?_
      refine lv_aload_n hx hb d_LW_law_449 rfl (lv_at hl 5 rfl) ?_
      refine lv_iload hx hb d_LW_law_450 (lv_at hl 1 rfl) ?_
      refine lv_iconst (v := nI 2) hx hb d_LW_law_452 (by decide +kernel) ?_
      refine lv_iadd hx hb d_LW_law_453 ?_
      refine sx_topi (y := nI (6 * t + 2)) (nI_add _ _) ?_
      refine sx_sld (k := 6 * t + 2) C0 hX hbl (Nat.not_le.mpr hbl) hS (by omega) (by omega) rfl d_LW_law_454 ?_
      refine lv_aload_n hx hb d_LW_law_455 rfl (lv_at hl 5 rfl) ?_
      refine lv_iload hx hb d_LW_law_456 (lv_at hl 1 rfl) ?_
      refine lv_iconst (v := nI 3) hx hb d_LW_law_458 (by decide +kernel) ?_
      refine lv_iadd hx hb d_LW_law_459 ?_
      refine sx_topi (y := nI (6 * t + 3)) (nI_add _ _) ?_
      refine sx_sld (k := 6 * t + 3) C0 hX hbl (Nat.not_le.mpr hbl) hS (by omega) (by omega) rfl d_LW_law_460 ?_
      refine lv_if_eq (tgt := 468) hx hb d_LW_law_461 (by decide) (fun z => absurd z (hs)) (fun _ => ?_)
      refine lv_iconst (v := 1) hx hb d_LW_law_464 (by decide) ?_
      refine lv_goto (tgt := 469) hx hb d_LW_law_465 (by decide) ?_
      refine sx_cV (As := [.int (xs (6 * t + 1)), .int (xs (6 * t + 2)), .int 1]) (rest := []) (wa := ((wSC G ad qc qb V F T L tc n CH BE cd rf C1 C2 C3 dp) ++ (wO G oo f))) (wb := (wMg G md KR ++ wMr G md K KT)) (k0 := 0) C0 (c_MD_held9 ho) q_LW_77 i_MD_held ⟨Nat.le_of_ble_eq_true rfl, Nat.le_of_ble_eq_true rfl⟩ rfl rfl rfl hP hD hS hA hl.1 rfl (Nat.le_of_ble_eq_true rfl) d_LW_law_469 ⟨(show 200 + 3 * (t + 1) + 0 ≤ 601024 by omega), (show 20000 + 5000 * (t + 1) + 0 ≤ 7293034 by omega)⟩ (fun r H locs hq hj hS => ?_)
      obtain ⟨rfl, hP1, hD1⟩ := hq
      obtain ⟨hP, hD⟩ := hj _ hP1 hD1
      have hP : va_P G.1 sx_cls ((wSC G ad qc qb V F T L tc n CH BE cd rf C1 C2 C3 dp) ++ ((wO G oo f) ++ (wMF G md 1 V F T rf dp KR K KT))) H := hP
      have hD : va_D (lw_A s) ((wSC G ad qc qb V F T L tc n CH BE cd rf C1 C2 C3 dp) ++ ((wO G oo f) ++ (wMF G md 1 V F T rf dp KR K KT))) := hD
      refine W.widen (k := 200 + 3 * (t + 1)) (n := 20000 + 5000 * (t + 1)) (Nat.le_refl _) (Nat.le_refl _) ?_
      refine lv_lstore hx hb d_LW_law_472 hl (by decide) rfl (fun ls hl => ?_)
      have hl : lv_has ls 8 [(6, .long 0), (5, .int 1), (4, .int (nI (6 * t))), (3, .ref oo), (2, .ref (md 0)), (1, .ref (ad 0)), (0, .ref b)] := hl
      refine lv_aload_n hx hb d_LW_law_474 rfl (lv_at hl 4 rfl) ?_
      refine sx_cVP (As := []) (rest := []) (wc := (wM4 G md 1 V F T rf dp)) (k0 := 0) C0 c_MD_thrown q_LW_57 i_MD_thrown ⟨Nat.le_of_ble_eq_true rfl, Nat.le_of_ble_eq_true rfl⟩ rfl rfl rfl (sx_mid (wa := ((wSC G ad qc qb V F T L tc n CH BE cd rf C1 C2 C3 dp) ++ (wO G oo f))) (wc := (wM4 G md 1 V F T rf dp)) (wb := (wMg G md KR ++ wMr G md K KT)) hP) hl.1 rfl (Nat.zero_le _) d_LW_law_475 ⟨(show 200 + 3 * (t + 1) ≤ 601024 by omega), (show 20000 + 5000 * (t + 1) ≤ 7293034 by omega)⟩ ?_
      refine lv_iload hx hb d_LW_law_478 (lv_at hl 1 rfl) ?_
      refine lv_icmp_eq (tgt := 485) hx hb d_LW_law_480 (by decide) (fun _ => ?_) (fun z => absurd (rfl) z)
      refine lv_iload hx hb d_LW_law_485 (lv_at hl 1 rfl) ?_
      refine lv_if_ne (tgt := 501) hx hb d_LW_law_487 (by decide) (fun _ => ?_) (fun z => absurd z ((by decide)))
      refine lv_goto (tgt := 635) hx hb d_LW_law_501 (by decide) ?_
      exact kk ls H locs ⟨_, _, _, _, _, _, _, _, _, _, _, _, _, _, _, _, _, _, _, _, _, hinv, hn0, (by omega), (by omega), hP, hD, hS⟩ (lv_sub hl [2, 3, 4, 5, 6] rfl)
  · obtain ⟨a, b1, ha, hb1, e1, e2⟩ := p_out_not ho
    by_cases hs : xs (6 * t + 3) = 0
    · skip
      refine lv_aload_n hx hb d_LW_law_409 rfl (lv_at hl 3 rfl) ?_
      refine lv_aload_n hx hb d_LW_law_410 rfl (lv_at hl 4 rfl) ?_
      refine lv_iload hx hb d_LW_law_411 (lv_at hl 0 rfl) ?_
      refine lv_iconst (v := nI 1) hx hb d_LW_law_413 (by decide +kernel) ?_
      refine lv_iadd hx hb d_LW_law_414 ?_
      refine sx_topi (y := nI (6 * t + 1)) (nI_add _ _) ?_
      refine sx_sld (k := 6 * t + 1) C0 hX hbl (Nat.not_le.mpr hbl) hS (by omega) (by omega) rfl d_LW_law_415 ?_
      refine sx_topi (y := nI a) e1 ?_
      refine lv_aload_n hx hb d_LW_law_416 rfl (lv_at hl 4 rfl) ?_
      refine lv_iload hx hb d_LW_law_417 (lv_at hl 0 rfl) ?_
      refine lv_iconst (v := nI 2) hx hb d_LW_law_419 (by decide +kernel) ?_
      refine lv_iadd hx hb d_LW_law_420 ?_
      refine sx_topi (y := nI (6 * t + 2)) (nI_add _ _) ?_
      refine sx_sld (k := 6 * t + 2) C0 hX hbl (Nat.not_le.mpr hbl) hS (by omega) (by omega) rfl d_LW_law_421 ?_
      refine sx_topi (y := nI b1) e2 ?_
      refine lv_aload_n hx hb d_LW_law_422 rfl (lv_at hl 4 rfl) ?_
      refine lv_iload hx hb d_LW_law_423 (lv_at hl 0 rfl) ?_
      refine lv_iconst (v := nI 3) hx hb d_LW_law_425 (by decide +kernel) ?_
      refine lv_iadd hx hb d_LW_law_426 ?_
      refine sx_topi (y := nI (6 * t + 3)) (nI_add _ _) ?_
      refine sx_sld (k := 6 * t + 3) C0 hX hbl (Nat.not_le.mpr hbl) hS (by omega) (by omega) rfl d_LW_law_427 ?_
      refine lv_if_eq (tgt := 435) hx hb d_LW_law_428 (by decide) (fun _ => ?_) (fun z => absurd (hs) z)
      refine lv_iconst (v := 0) hx hb d_LW_law_435 (by decide) ?_
      refine lv_aload_n hx hb d_LW_law_436 rfl (lv_at hl 1 rfl) ?_
      refine sx_cSW (B := (fun _ => True)) (As := [.ref (ad 0), .int (nI a), .int (nI b1), .int 0, .ref oo]) (rest := []) (wa := []) (wc := ((wSC G ad qc qb V F T L tc n CH BE cd rf C1 C2 C3 dp) ++ (wO G oo f))) (wb := (wMF G md fl V F T rf dp KR K KT)) C0 (c_LW_held0 ha hb1 rfl) (fun _ _ _ _ _ => trivial) q_LW_74 i_LW_held ⟨Nat.le_of_ble_eq_true rfl, Nat.le_of_ble_eq_true rfl⟩ rfl hP hD hS hA (fun _ _ _ => trivial) hl.1 rfl (Nat.zero_le _) d_LW_law_437 ⟨(show 200 + 3 * t + 0 ≤ 601024 by omega), (show 20000 + 5000 * t + 0 ≤ 7293034 by omega)⟩ (fun r H locs hq hj hS => ?_)
      obtain ⟨rfl, hP1, hD1⟩ := hq
      obtain ⟨hP, hD⟩ := hj _ hP1 hD1
      have hP : va_P G.1 sx_cls ((wSC G ad qc qb V F T L tc n CH BE cd rf C1 C2 C3 dp) ++ ((wO G oo (fun _ => V (64 * a + b1))) ++ (wMF G md fl V F T rf dp KR K KT))) H := hP
      have hD : va_D (lw_A s) ((wSC G ad qc qb V F T L tc n CH BE cd rf C1 C2 C3 dp) ++ ((wO G oo (fun _ => V (64 * a + b1))) ++ (wMF G md fl V F T rf dp KR K KT))) := hD
      refine W.widen (k := 200 + 3 * (t + 1)) (n := 20000 + 5000 * (t + 1)) (show 200 + 3 * t + 0 ≤ 200 + 3 * (t + 1) by omega) (show 20000 + 5000 * t + 0 ≤ 20000 + 5000 * (t + 1) by omega) ?_
      refine lv_istore hx hb d_LW_law_440 hl (by decide) rfl (fun ls hl => ?_)
      have hl : lv_has ls 8 [(5, .int 0), (4, .int (nI (6 * t))), (3, .ref oo), (2, .ref (md 0)), (1, .ref (ad 0)), (0, .ref b)] := hl
      refine lv_aload_n hx hb d_LW_law_442 rfl (lv_at hl 3 rfl) ?_
      refine lv_aload_n hx hb d_LW_law_443 rfl (lv_at hl 5 rfl) ?_
      refine lv_iload hx hb d_LW_law_444 (lv_at hl 1 rfl) ?_
      refine lv_iconst (v := nI 1) hx hb d_LW_law_446 (by decide +kernel) ?_
      refine lv_iadd hx hb d_LW_law_447 ?_
      refine sx_topi (y := nI (6 * t + 1)) (nI_add _ _) ?_
      refine sx_sld (k := 6 * t + 1) C0 hX hbl (Nat.not_le.mpr hbl) hS (by omega) (by omega) rfl d_LW_law_448 ?_
      refine sx_topi (y := nI a) e1 ?_
      refine lv_aload_n hx hb d_LW_law_449 rfl (lv_at hl 5 rfl) ?_
      refine lv_iload hx hb d_LW_law_450 (lv_at hl 1 rfl) ?_
      refine lv_iconst (v := nI 2) hx hb d_LW_law_452 (by decide +kernel) ?_
      refine lv_iadd hx hb d_LW_law_453 ?_
      refine sx_topi (y := nI (6 * t + 2)) (nI_add _ _) ?_
      refine sx_sld (k := 6 * t + 2) C0 hX hbl (Nat.not_le.mpr hbl) hS (by omega) (by omega) rfl d_LW_law_454 ?_
      refine sx_topi (y := nI b1) e2 ?_
      refine lv_aload_n hx hb d_LW_law_455 rfl (lv_at hl 5 rfl) ?_
      refine lv_iload hx hb d_LW_law_456 (lv_at hl 1 rfl) ?_
      refine lv_iconst (v := nI 3) hx hb d_LW_law_458 (by decide +kernel) ?_
      refine lv_iadd hx hb d_LW_law_459 ?_
      refine sx_topi (y := nI (6 * t + 3)) (nI_add _ _) ?_
      refine sx_sld (k := 6 * t + 3) C0 hX hbl (Nat.not_le.mpr hbl) hS (by omega) (by omega) rfl d_LW_law_460 ?_
      refine lv_if_eq (tgt := 468) hx hb d_LW_law_461 (by decide) (fun _ => ?_) (fun z => absurd (hs) z)
      refine lv_iconst (v := 0) hx hb d_LW_law_468 (by decide) ?_
      refine sx_cV (As := [.int (nI a), .int (nI b1), .int 0]) (rest := []) (wa := ((wSC G ad qc qb V F T L tc n CH BE cd rf C1 C2 C3 dp) ++ (wO G oo (fun _ => V (64 * a + b1))))) (wb := (wMg G md KR ++ wMr G md K KT)) (k0 := 0) C0 (c_MD_held0 ha hb1 rfl) q_LW_77 i_MD_held ⟨Nat.le_of_ble_eq_true rfl, Nat.le_of_ble_eq_true rfl⟩ rfl rfl rfl hP hD hS hA hl.1 rfl (Nat.le_of_ble_eq_true rfl) d_LW_law_469 ⟨(show 200 + 3 * (t + 1) + 0 ≤ 601024 by omega), (show 20000 + 5000 * (t + 1) + 0 ≤ 7293034 by omega)⟩ (fun r H locs hq hj hS => ?_)
      obtain ⟨rfl, hP1, hD1⟩ := hq
      obtain ⟨hP, hD⟩ := hj _ hP1 hD1
      have hP : va_P G.1 sx_cls ((wSC G ad qc qb V F T L tc n CH BE cd rf C1 C2 C3 dp) ++ ((wO G oo (fun _ => V (64 * a + b1))) ++ (wMF G md 0 V F T rf dp KR K KT))) H := hP
      have hD : va_D (lw_A s) ((wSC G ad qc qb V F T L tc n CH BE cd rf C1 C2 C3 dp) ++ ((wO G oo (fun _ => V (64 * a + b1))) ++ (wMF G md 0 V F T rf dp KR K KT))) := hD
      refine W.widen (k := 200 + 3 * (t + 1)) (n := 20000 + 5000 * (t + 1)) (Nat.le_refl _) (Nat.le_refl _) ?_
      refine lv_lstore hx hb d_LW_law_472 hl (by decide) rfl (fun ls hl => ?_)
      have hl : lv_has ls 8 [(6, .long (V (64 * a + b1))), (5, .int 0), (4, .int (nI (6 * t))), (3, .ref oo), (2, .ref (md 0)), (1, .ref (ad 0)), (0, .ref b)] := hl
      refine lv_aload_n hx hb d_LW_law_474 rfl (lv_at hl 4 rfl) ?_
      refine sx_cVP (As := []) (rest := []) (wc := (wM4 G md 0 V F T rf dp)) (k0 := 0) C0 c_MD_thrown q_LW_57 i_MD_thrown ⟨Nat.le_of_ble_eq_true rfl, Nat.le_of_ble_eq_true rfl⟩ rfl rfl rfl (sx_mid (wa := ((wSC G ad qc qb V F T L tc n CH BE cd rf C1 C2 C3 dp) ++ (wO G oo (fun _ => V (64 * a + b1))))) (wc := (wM4 G md 0 V F T rf dp)) (wb := (wMg G md KR ++ wMr G md K KT)) hP) hl.1 rfl (Nat.zero_le _) d_LW_law_475 ⟨(show 200 + 3 * (t + 1) ≤ 601024 by omega), (show 20000 + 5000 * (t + 1) ≤ 7293034 by omega)⟩ ?_
      refine lv_iload hx hb d_LW_law_478 (lv_at hl 1 rfl) ?_
      refine lv_icmp_eq (tgt := 485) hx hb d_LW_law_480 (by decide) (fun _ => ?_) (fun z => absurd (rfl) z)
      refine lv_iload hx hb d_LW_law_485 (lv_at hl 1 rfl) ?_
      refine lv_if_ne (tgt := 501) hx hb d_LW_law_487 (by decide) (fun z => absurd (rfl) z) (fun _ => ?_)
      refine lv_aload_n hx hb d_LW_law_490 rfl (lv_at hl 3 rfl) ?_
      refine lv_iconst (v := 0) hx hb d_LW_law_491 (by decide) ?_
      refine sx_lald (i := 0) (v := V (64 * a + b1)) C0 hP 11 rfl rfl (by decide) (by decide) rfl d_LW_law_492 ?_
      refine lv_lload hx hb d_LW_law_493 (lv_at hl 0 rfl) ?_
      refine sx_lifeq (tgt := 501) C0 d_LW_law_495 d_LW_law_496 (by decide) (fun _ => ?_) (fun z => absurd rfl z)
      refine lv_goto (tgt := 635) hx hb d_LW_law_501 (by decide) ?_
      exact kk ls H locs ⟨_, _, _, _, _, _, _, _, _, _, _, _, _, _, _, _, _, _, _, _, _, hinv, hn0, (by omega), (by omega), hP, hD, hS⟩ (lv_sub hl [2, 3, 4, 5, 6] rfl)
    · skip
      refine lv_aload_n hx hb d_LW_law_409 rfl (lv_at hl 3 rfl) ?_
      refine lv_aload_n hx hb d_LW_law_410 rfl (lv_at hl 4 rfl) ?_
      refine lv_iload hx hb d_LW_law_411 (lv_at hl 0 rfl) ?_
      refine lv_iconst (v := nI 1) hx hb d_LW_law_413 (by decide +kernel) ?_
      refine lv_iadd hx hb d_LW_law_414 ?_
      refine sx_topi (y := nI (6 * t + 1)) (nI_add _ _) ?_
      refine sx_sld (k := 6 * t + 1) C0 hX hbl (Nat.not_le.mpr hbl) hS (by omega) (by omega) rfl d_LW_law_415 ?_
      refine sx_topi (y := nI a) e1 ?_
      refine lv_aload_n hx hb d_LW_law_416 rfl (lv_at hl 4 rfl) ?_
      refine lv_iload hx hb d_LW_law_417 (lv_at hl 0 rfl) ?_
      refine lv_iconst (v := nI 2) hx hb d_LW_law_419 (by decide +kernel) ?_
      refine lv_iadd hx hb d_LW_law_420 ?_
      refine sx_topi (y := nI (6 * t + 2)) (nI_add _ _) ?_
      refine sx_sld (k := 6 * t + 2) C0 hX hbl (Nat.not_le.mpr hbl) hS (by omega) (by omega) rfl d_LW_law_421 ?_
      refine sx_topi (y := nI b1) e2 ?_
      refine lv_aload_n hx hb d_LW_law_422 rfl (lv_at hl 4 rfl) ?_
      refine lv_iload hx hb d_LW_law_423 (lv_at hl 0 rfl) ?_
      refine lv_iconst (v := nI 3) hx hb d_LW_law_425 (by decide +kernel) ?_
      refine lv_iadd hx hb d_LW_law_426 ?_
      refine sx_topi (y := nI (6 * t + 3)) (nI_add _ _) ?_
      refine sx_sld (k := 6 * t + 3) C0 hX hbl (Nat.not_le.mpr hbl) hS (by omega) (by omega) rfl d_LW_law_427 ?_
      refine lv_if_eq (tgt := 435) hx hb d_LW_law_428 (by decide) (fun z => absurd z (hs)) (fun _ => ?_)
      refine lv_iconst (v := 1) hx hb d_LW_law_431 (by decide) ?_
      refine lv_goto (tgt := 436) hx hb d_LW_law_432 (by decide) ?_
      refine lv_aload_n hx hb d_LW_law_436 rfl (lv_at hl 1 rfl) ?_
      refine sx_cSW (B := (fun _ => True)) (As := [.ref (ad 0), .int (nI a), .int (nI b1), .int 1, .ref oo]) (rest := []) (wa := []) (wc := ((wSC G ad qc qb V F T L tc n CH BE cd rf C1 C2 C3 dp) ++ (wO G oo f))) (wb := (wMF G md fl V F T rf dp KR K KT)) C0 (c_LW_held1 ha hb1 (by decide)) (fun _ _ _ _ _ => trivial) q_LW_74 i_LW_held ⟨Nat.le_of_ble_eq_true rfl, Nat.le_of_ble_eq_true rfl⟩ rfl hP hD hS hA (fun _ _ _ => trivial) hl.1 rfl (Nat.zero_le _) d_LW_law_437 ⟨(show 200 + 3 * t + 0 ≤ 601024 by omega), (show 20000 + 5000 * t + 0 ≤ 7293034 by omega)⟩ (fun r H locs hq hj hS => ?_)
      obtain ⟨rfl, hP1, hD1⟩ := hq
      obtain ⟨hP, hD⟩ := hj _ hP1 hD1
      have hP : va_P G.1 sx_cls ((wSC G ad qc qb V F T L tc n CH BE cd rf C1 C2 C3 dp) ++ ((wO G oo (fun _ => F (64 * a + b1))) ++ (wMF G md fl V F T rf dp KR K KT))) H := hP
      have hD : va_D (lw_A s) ((wSC G ad qc qb V F T L tc n CH BE cd rf C1 C2 C3 dp) ++ ((wO G oo (fun _ => F (64 * a + b1))) ++ (wMF G md fl V F T rf dp KR K KT))) := hD
      refine W.widen (k := 200 + 3 * (t + 1)) (n := 20000 + 5000 * (t + 1)) (show 200 + 3 * t + 0 ≤ 200 + 3 * (t + 1) by omega) (show 20000 + 5000 * t + 0 ≤ 20000 + 5000 * (t + 1) by omega) ?_
      refine lv_istore hx hb d_LW_law_440 hl (by decide) rfl (fun ls hl => ?_)
      have hl : lv_has ls 8 [(5, .int 0), (4, .int (nI (6 * t))), (3, .ref oo), (2, .ref (md 0)), (1, .ref (ad 0)), (0, .ref b)] := hl
      refine lv_aload_n hx hb d_LW_law_442 rfl (lv_at hl 3 rfl) ?_
      refine lv_aload_n hx hb d_LW_law_443 rfl (lv_at hl 5 rfl) ?_
      refine lv_iload hx hb d_LW_law_444 (lv_at hl 1 rfl) ?_
      refine lv_iconst (v := nI 1) hx hb d_LW_law_446 (by decide +kernel) ?_
      refine lv_iadd hx hb d_LW_law_447 ?_
      refine sx_topi (y := nI (6 * t + 1)) (nI_add _ _) ?_
      refine sx_sld (k := 6 * t + 1) C0 hX hbl (Nat.not_le.mpr hbl) hS (by omega) (by omega) rfl d_LW_law_448 ?_
      refine sx_topi (y := nI a) e1 ?_
      refine lv_aload_n hx hb d_LW_law_449 rfl (lv_at hl 5 rfl) ?_
      refine lv_iload hx hb d_LW_law_450 (lv_at hl 1 rfl) ?_
      refine lv_iconst (v := nI 2) hx hb d_LW_law_452 (by decide +kernel) ?_
      refine lv_iadd hx hb d_LW_law_453 ?_
      refine sx_topi (y := nI (6 * t + 2)) (nI_add _ _) ?_
      refine sx_sld (k := 6 * t + 2) C0 hX hbl (Nat.not_le.mpr hbl) hS (by omega) (by omega) rfl d_LW_law_454 ?_
      refine sx_topi (y := nI b1) e2 ?_
      refine lv_aload_n hx hb d_LW_law_455 rfl (lv_at hl 5 rfl) ?_
      refine lv_iload hx hb d_LW_law_456 (lv_at hl 1 rfl) ?_
      refine lv_iconst (v := nI 3) hx hb d_LW_law_458 (by decide +kernel) ?_
      refine lv_iadd hx hb d_LW_law_459 ?_
      refine sx_topi (y := nI (6 * t + 3)) (nI_add _ _) ?_
      refine sx_sld (k := 6 * t + 3) C0 hX hbl (Nat.not_le.mpr hbl) hS (by omega) (by omega) rfl d_LW_law_460 ?_
      refine lv_if_eq (tgt := 468) hx hb d_LW_law_461 (by decide) (fun z => absurd z (hs)) (fun _ => ?_)
      refine lv_iconst (v := 1) hx hb d_LW_law_464 (by decide) ?_
      refine lv_goto (tgt := 469) hx hb d_LW_law_465 (by decide) ?_
      refine sx_cV (As := [.int (nI a), .int (nI b1), .int 1]) (rest := []) (wa := ((wSC G ad qc qb V F T L tc n CH BE cd rf C1 C2 C3 dp) ++ (wO G oo (fun _ => F (64 * a + b1))))) (wb := (wMg G md KR ++ wMr G md K KT)) (k0 := 0) C0 (c_MD_held1 ha hb1 (by decide)) q_LW_77 i_MD_held ⟨Nat.le_of_ble_eq_true rfl, Nat.le_of_ble_eq_true rfl⟩ rfl rfl rfl hP hD hS hA hl.1 rfl (Nat.le_of_ble_eq_true rfl) d_LW_law_469 ⟨(show 200 + 3 * (t + 1) + 0 ≤ 601024 by omega), (show 20000 + 5000 * (t + 1) + 0 ≤ 7293034 by omega)⟩ (fun r H locs hq hj hS => ?_)
      obtain ⟨rfl, hP1, hD1⟩ := hq
      obtain ⟨hP, hD⟩ := hj _ hP1 hD1
      have hP : va_P G.1 sx_cls ((wSC G ad qc qb V F T L tc n CH BE cd rf C1 C2 C3 dp) ++ ((wO G oo (fun _ => F (64 * a + b1))) ++ (wMF G md 0 V F T rf dp KR K KT))) H := hP
      have hD : va_D (lw_A s) ((wSC G ad qc qb V F T L tc n CH BE cd rf C1 C2 C3 dp) ++ ((wO G oo (fun _ => F (64 * a + b1))) ++ (wMF G md 0 V F T rf dp KR K KT))) := hD
      refine W.widen (k := 200 + 3 * (t + 1)) (n := 20000 + 5000 * (t + 1)) (Nat.le_refl _) (Nat.le_refl _) ?_
      refine lv_lstore hx hb d_LW_law_472 hl (by decide) rfl (fun ls hl => ?_)
      have hl : lv_has ls 8 [(6, .long (F (64 * a + b1))), (5, .int 0), (4, .int (nI (6 * t))), (3, .ref oo), (2, .ref (md 0)), (1, .ref (ad 0)), (0, .ref b)] := hl
      refine lv_aload_n hx hb d_LW_law_474 rfl (lv_at hl 4 rfl) ?_
      refine sx_cVP (As := []) (rest := []) (wc := (wM4 G md 0 V F T rf dp)) (k0 := 0) C0 c_MD_thrown q_LW_57 i_MD_thrown ⟨Nat.le_of_ble_eq_true rfl, Nat.le_of_ble_eq_true rfl⟩ rfl rfl rfl (sx_mid (wa := ((wSC G ad qc qb V F T L tc n CH BE cd rf C1 C2 C3 dp) ++ (wO G oo (fun _ => F (64 * a + b1))))) (wc := (wM4 G md 0 V F T rf dp)) (wb := (wMg G md KR ++ wMr G md K KT)) hP) hl.1 rfl (Nat.zero_le _) d_LW_law_475 ⟨(show 200 + 3 * (t + 1) ≤ 601024 by omega), (show 20000 + 5000 * (t + 1) ≤ 7293034 by omega)⟩ ?_
      refine lv_iload hx hb d_LW_law_478 (lv_at hl 1 rfl) ?_
      refine lv_icmp_eq (tgt := 485) hx hb d_LW_law_480 (by decide) (fun _ => ?_) (fun z => absurd (rfl) z)
      refine lv_iload hx hb d_LW_law_485 (lv_at hl 1 rfl) ?_
      refine lv_if_ne (tgt := 501) hx hb d_LW_law_487 (by decide) (fun z => absurd (rfl) z) (fun _ => ?_)
      refine lv_aload_n hx hb d_LW_law_490 rfl (lv_at hl 3 rfl) ?_
      refine lv_iconst (v := 0) hx hb d_LW_law_491 (by decide) ?_
      refine sx_lald (i := 0) (v := F (64 * a + b1)) C0 hP 11 rfl rfl (by decide) (by decide) rfl d_LW_law_492 ?_
      refine lv_lload hx hb d_LW_law_493 (lv_at hl 0 rfl) ?_
      refine sx_lifeq (tgt := 501) C0 d_LW_law_495 d_LW_law_496 (by decide) (fun _ => ?_) (fun z => absurd rfl z)
      refine lv_goto (tgt := 635) hx hb d_LW_law_501 (by decide) ?_
      exact kk ls H locs ⟨_, _, _, _, _, _, _, _, _, _, _, _, _, _, _, _, _, _, _, _, _, hinv, hn0, (by omega), (by omega), hP, hD, hS⟩ (lv_sub hl [2, 3, 4, 5, 6] rfl)
set_option maxRecDepth 20000 in
theorem law_op6 (C0 : sx_C p s m c code 8 sx_LW G) (hfl : l.flags = flags0) (hTS : sx_TS s) (hX : va_X b LN xs s s.heap) (hbl : b < s.heap.size) (hLN : LN ≤ 3072) (ht : 6 * t + 6 ≤ LN) (hSt : lw_St G ad md oo s t H locs) (hl : lv_has ls 8 [(4, .int (nI (6 * t))), (3, .ref oo), (2, .ref (md 0)), (1, .ref (ad 0)), (0, .ref b)])
    (kk : ∀ (ls : Array Slot) (H : Heap) (locs : List Loc), lw_St G ad md oo s (t + 1) H locs → lv_has ls 8 [(4, .int (nI (6 * t))), (3, .ref oo), (2, .ref (md 0)), (1, .ref (ad 0)), (0, .ref b)] → W p l e room_1 s m args below meth c H locs (200 + 3 * (t + 1)) (20000 + 5000 * (t + 1)) Q (F0 m 635 ls [])) :
    W p l e room_1 s m args below meth c H locs (200 + 3 * t) (20000 + 5000 * t) Q (F0 m 504 ls []) := by
  have hx := C0.1
  have hb := C0.2.1
  have hA : ∀ q, s.heap.size ≤ q → lw_A s q := fun _ h => h
  obtain ⟨qc, qb, V, F, T, L, tc, n, CH, BE, cd, rf, C1, C2, C3, dp, f, fl, KR, K, KT, hinv, hn0, hn, hcd, hP, hD, hS⟩ := hSt
  have htc : tc ≤ 256 := p_tl_le hinv.1
  have hdp : dp ≤ 30 := hinv.2.2.2.1
  have hcn : cd ≤ n := hinv.2.2.1
  have hz : ∀ j, T j = 0 ∨ T j = 1 := p_tl_bool hinv.1
  by_cases ho : p_out (xs (6 * t + 1)) (xs (6 * t + 2))
  · skip
    refine lv_aload_n hx hb d_LW_law_504 rfl (lv_at hl 3 rfl) ?_
    refine lv_aload_n hx hb d_LW_law_505 rfl (lv_at hl 4 rfl) ?_
    refine lv_iload hx hb d_LW_law_506 (lv_at hl 0 rfl) ?_
    refine lv_iconst (v := nI 1) hx hb d_LW_law_508 (by decide +kernel) ?_
    refine lv_iadd hx hb d_LW_law_509 ?_
    refine sx_topi (y := nI (6 * t + 1)) (nI_add _ _) ?_
    refine sx_sld (k := 6 * t + 1) C0 hX hbl (Nat.not_le.mpr hbl) hS (by omega) (by omega) rfl d_LW_law_510 ?_
    refine lv_aload_n hx hb d_LW_law_511 rfl (lv_at hl 4 rfl) ?_
    refine lv_iload hx hb d_LW_law_512 (lv_at hl 0 rfl) ?_
    refine lv_iconst (v := nI 2) hx hb d_LW_law_514 (by decide +kernel) ?_
    refine lv_iadd hx hb d_LW_law_515 ?_
    refine sx_topi (y := nI (6 * t + 2)) (nI_add _ _) ?_
    refine sx_sld (k := 6 * t + 2) C0 hX hbl (Nat.not_le.mpr hbl) hS (by omega) (by omega) rfl d_LW_law_516 ?_
    refine lv_aload_n hx hb d_LW_law_517 rfl (lv_at hl 1 rfl) ?_
    refine sx_cSW (B := sx_TS) (As := [.ref (ad 0), .int (xs (6 * t + 1)), .int (xs (6 * t + 2)), .ref oo]) (rest := []) (wa := []) (wc := ((wSC G ad qc qb V F T L tc n CH BE cd rf C1 C2 C3 dp) ++ (wO G oo f))) (wb := (wMF G md fl V F T rf dp KR K KT)) C0 (x_LW_touched hfl ho) (fun U g mk a h => h.same rfl rfl) q_LW_78 i_LW_touched ⟨Nat.le_of_ble_eq_true rfl, Nat.le_of_ble_eq_true rfl⟩ rfl hP hD hS hA (fun U hU hW => hTS.ext hW (fun q hq => by rw [hU]; exact hS.2.1 q hq (Nat.not_le.mpr hq))) hl.1 rfl (Nat.zero_le _) d_LW_law_518 ⟨(show 200 + 3 * t + 1 ≤ 601024 by omega), (show 20000 + 5000 * t + 6 ≤ 7293034 by omega)⟩ (fun r H locs hq hj hS => ?_)
    obtain ⟨rfl, hP1, hD1⟩ := hq
    obtain ⟨hP, hD⟩ := hj _ hP1 hD1
    have hP : va_P G.1 sx_cls ((wSC G ad qc qb V F T L tc n CH BE cd rf C1 C2 C3 dp) ++ ((wO G oo f) ++ (wMF G md fl V F T rf dp KR K KT))) H := hP
    have hD : va_D (lw_A s) ((wSC G ad qc qb V F T L tc n CH BE cd rf C1 C2 C3 dp) ++ ((wO G oo f) ++ (wMF G md fl V F T rf dp KR K KT))) := hD
    refine W.widen (k := 200 + 3 * (t + 1)) (n := 20000 + 5000 * (t + 1)) (show 200 + 3 * t + 1 ≤ 200 + 3 * (t + 1) by omega) (show 20000 + 5000 * t + 6 ≤ 20000 + 5000 * (t + 1) by omega) ?_
    refine lv_istore hx hb d_LW_law_521 hl (by decide) rfl (fun ls hl => ?_)
    have hl : lv_has ls 8 [(5, .int 1), (4, .int (nI (6 * t))), (3, .ref oo), (2, .ref (md 0)), (1, .ref (ad 0)), (0, .ref b)] := hl
    refine lv_aload_n hx hb d_LW_law_523 rfl (lv_at hl 3 rfl) ?_
    refine lv_aload_n hx hb d_LW_law_524 rfl (lv_at hl 5 rfl) ?_
    refine lv_iload hx hb d_LW_law_525 (lv_at hl 1 rfl) ?_
    refine lv_iconst (v := nI 1) hx hb d_LW_law_527 (by decide +kernel) ?_
    refine lv_iadd hx hb d_LW_law_528 ?_
    refine sx_topi (y := nI (6 * t + 1)) (nI_add _ _) ?_
    refine sx_sld (k := 6 * t + 1) C0 hX hbl (Nat.not_le.mpr hbl) hS (by omega) (by omega) rfl d_LW_law_529 ?_
    refine lv_aload_n hx hb d_LW_law_530 rfl (lv_at hl 5 rfl) ?_
    refine lv_iload hx hb d_LW_law_531 (lv_at hl 1 rfl) ?_
    refine lv_iconst (v := nI 2) hx hb d_LW_law_533 (by decide +kernel) ?_
    refine lv_iadd hx hb d_LW_law_534 ?_
    refine sx_topi (y := nI (6 * t + 2)) (nI_add _ _) ?_
    refine sx_sld (k := 6 * t + 2) C0 hX hbl (Nat.not_le.mpr hbl) hS (by omega) (by omega) rfl d_LW_law_535 ?_
    refine sx_cV (As := [.int (xs (6 * t + 1)), .int (xs (6 * t + 2))]) (rest := []) (wa := ((wSC G ad qc qb V F T L tc n CH BE cd rf C1 C2 C3 dp) ++ (wO G oo f))) (wb := (wMg G md KR ++ wMr G md K KT)) (k0 := 0) C0 (c_MD_touched1 ho) q_LW_80 i_MD_touched ⟨Nat.le_of_ble_eq_true rfl, Nat.le_of_ble_eq_true rfl⟩ rfl rfl rfl hP hD hS hA hl.1 rfl (Nat.le_of_ble_eq_true rfl) d_LW_law_536 ⟨(show 200 + 3 * (t + 1) + 0 ≤ 601024 by omega), (show 20000 + 5000 * (t + 1) + 0 ≤ 7293034 by omega)⟩ (fun r H locs hq hj hS => ?_)
    obtain ⟨rfl, hP1, hD1⟩ := hq
    obtain ⟨hP, hD⟩ := hj _ hP1 hD1
    have hP : va_P G.1 sx_cls ((wSC G ad qc qb V F T L tc n CH BE cd rf C1 C2 C3 dp) ++ ((wO G oo f) ++ (wMF G md 1 V F T rf dp KR K KT))) H := hP
    have hD : va_D (lw_A s) ((wSC G ad qc qb V F T L tc n CH BE cd rf C1 C2 C3 dp) ++ ((wO G oo f) ++ (wMF G md 1 V F T rf dp KR K KT))) := hD
    refine W.widen (k := 200 + 3 * (t + 1)) (n := 20000 + 5000 * (t + 1)) (Nat.le_refl _) (Nat.le_refl _) ?_
    refine lv_istore hx hb d_LW_law_539 hl (by decide) rfl (fun ls hl => ?_)
    have hl : lv_has ls 8 [(6, .int 0), (5, .int 1), (4, .int (nI (6 * t))), (3, .ref oo), (2, .ref (md 0)), (1, .ref (ad 0)), (0, .ref b)] := hl
    refine lv_aload_n hx hb d_LW_law_541 rfl (lv_at hl 4 rfl) ?_
    refine sx_cVP (As := []) (rest := []) (wc := (wM4 G md 1 V F T rf dp)) (k0 := 0) C0 c_MD_thrown q_LW_57 i_MD_thrown ⟨Nat.le_of_ble_eq_true rfl, Nat.le_of_ble_eq_true rfl⟩ rfl rfl rfl (sx_mid (wa := ((wSC G ad qc qb V F T L tc n CH BE cd rf C1 C2 C3 dp) ++ (wO G oo f))) (wc := (wM4 G md 1 V F T rf dp)) (wb := (wMg G md KR ++ wMr G md K KT)) hP) hl.1 rfl (Nat.zero_le _) d_LW_law_542 ⟨(show 200 + 3 * (t + 1) ≤ 601024 by omega), (show 20000 + 5000 * (t + 1) ≤ 7293034 by omega)⟩ ?_
    refine lv_iload hx hb d_LW_law_545 (lv_at hl 1 rfl) ?_
    refine lv_icmp_eq (tgt := 552) hx hb d_LW_law_547 (by decide) (fun _ => ?_) (fun z => absurd (rfl) z)
    refine lv_iload hx hb d_LW_law_552 (lv_at hl 1 rfl) ?_
    refine lv_if_ne (tgt := 576) hx hb d_LW_law_554 (by decide) (fun _ => ?_) (fun z => absurd z ((by decide)))
    refine lv_goto (tgt := 635) hx hb d_LW_law_576 (by decide) ?_
    exact kk ls H locs ⟨_, _, _, _, _, _, _, _, _, _, _, _, _, _, _, _, _, _, _, _, _, hinv, hn0, (by omega), (by omega), hP, hD, hS⟩ (lv_sub hl [2, 3, 4, 5, 6] rfl)
  · obtain ⟨a, b1, ha, hb1, e1, e2⟩ := p_out_not ho
    refine lv_aload_n hx hb d_LW_law_504 rfl (lv_at hl 3 rfl) ?_
    refine lv_aload_n hx hb d_LW_law_505 rfl (lv_at hl 4 rfl) ?_
    refine lv_iload hx hb d_LW_law_506 (lv_at hl 0 rfl) ?_
    refine lv_iconst (v := nI 1) hx hb d_LW_law_508 (by decide +kernel) ?_
    refine lv_iadd hx hb d_LW_law_509 ?_
    refine sx_topi (y := nI (6 * t + 1)) (nI_add _ _) ?_
    refine sx_sld (k := 6 * t + 1) C0 hX hbl (Nat.not_le.mpr hbl) hS (by omega) (by omega) rfl d_LW_law_510 ?_
    refine sx_topi (y := nI a) e1 ?_
    refine lv_aload_n hx hb d_LW_law_511 rfl (lv_at hl 4 rfl) ?_
    refine lv_iload hx hb d_LW_law_512 (lv_at hl 0 rfl) ?_
    refine lv_iconst (v := nI 2) hx hb d_LW_law_514 (by decide +kernel) ?_
    refine lv_iadd hx hb d_LW_law_515 ?_
    refine sx_topi (y := nI (6 * t + 2)) (nI_add _ _) ?_
    refine sx_sld (k := 6 * t + 2) C0 hX hbl (Nat.not_le.mpr hbl) hS (by omega) (by omega) rfl d_LW_law_516 ?_
    refine sx_topi (y := nI b1) e2 ?_
    refine lv_aload_n hx hb d_LW_law_517 rfl (lv_at hl 1 rfl) ?_
    refine sx_cSW (B := (fun _ => True)) (As := [.ref (ad 0), .int (nI a), .int (nI b1), .ref oo]) (rest := []) (wa := []) (wc := ((wSC G ad qc qb V F T L tc n CH BE cd rf C1 C2 C3 dp) ++ (wO G oo f))) (wb := (wMF G md fl V F T rf dp KR K KT)) C0 (c_LW_touched ha hb1 (p_nz (hz _))) (fun _ _ _ _ _ => trivial) q_LW_78 i_LW_touched ⟨Nat.le_of_ble_eq_true rfl, Nat.le_of_ble_eq_true rfl⟩ rfl hP hD hS hA (fun _ _ _ => trivial) hl.1 rfl (Nat.zero_le _) d_LW_law_518 ⟨(show 200 + 3 * t + 0 ≤ 601024 by omega), (show 20000 + 5000 * t + 0 ≤ 7293034 by omega)⟩ (fun r H locs hq hj hS => ?_)
    obtain ⟨rfl, hP1, hD1⟩ := hq
    obtain ⟨hP, hD⟩ := hj _ hP1 hD1
    have hP : va_P G.1 sx_cls ((wSC G ad qc qb V F T L tc n CH BE cd rf C1 C2 C3 dp) ++ ((wO G oo (fun _ => (if T (64 * a + b1) = 0 then 0 else 1))) ++ (wMF G md fl V F T rf dp KR K KT))) H := hP
    have hD : va_D (lw_A s) ((wSC G ad qc qb V F T L tc n CH BE cd rf C1 C2 C3 dp) ++ ((wO G oo (fun _ => (if T (64 * a + b1) = 0 then 0 else 1))) ++ (wMF G md fl V F T rf dp KR K KT))) := hD
    refine W.widen (k := 200 + 3 * (t + 1)) (n := 20000 + 5000 * (t + 1)) (show 200 + 3 * t + 0 ≤ 200 + 3 * (t + 1) by omega) (show 20000 + 5000 * t + 0 ≤ 20000 + 5000 * (t + 1) by omega) ?_
    refine lv_istore hx hb d_LW_law_521 hl (by decide) rfl (fun ls hl => ?_)
    have hl : lv_has ls 8 [(5, .int 0), (4, .int (nI (6 * t))), (3, .ref oo), (2, .ref (md 0)), (1, .ref (ad 0)), (0, .ref b)] := hl
    refine lv_aload_n hx hb d_LW_law_523 rfl (lv_at hl 3 rfl) ?_
    refine lv_aload_n hx hb d_LW_law_524 rfl (lv_at hl 5 rfl) ?_
    refine lv_iload hx hb d_LW_law_525 (lv_at hl 1 rfl) ?_
    refine lv_iconst (v := nI 1) hx hb d_LW_law_527 (by decide +kernel) ?_
    refine lv_iadd hx hb d_LW_law_528 ?_
    refine sx_topi (y := nI (6 * t + 1)) (nI_add _ _) ?_
    refine sx_sld (k := 6 * t + 1) C0 hX hbl (Nat.not_le.mpr hbl) hS (by omega) (by omega) rfl d_LW_law_529 ?_
    refine sx_topi (y := nI a) e1 ?_
    refine lv_aload_n hx hb d_LW_law_530 rfl (lv_at hl 5 rfl) ?_
    refine lv_iload hx hb d_LW_law_531 (lv_at hl 1 rfl) ?_
    refine lv_iconst (v := nI 2) hx hb d_LW_law_533 (by decide +kernel) ?_
    refine lv_iadd hx hb d_LW_law_534 ?_
    refine sx_topi (y := nI (6 * t + 2)) (nI_add _ _) ?_
    refine sx_sld (k := 6 * t + 2) C0 hX hbl (Nat.not_le.mpr hbl) hS (by omega) (by omega) rfl d_LW_law_535 ?_
    refine sx_topi (y := nI b1) e2 ?_
    refine sx_cV (As := [.int (nI a), .int (nI b1)]) (rest := []) (wa := ((wSC G ad qc qb V F T L tc n CH BE cd rf C1 C2 C3 dp) ++ (wO G oo (fun _ => (if T (64 * a + b1) = 0 then 0 else 1))))) (wb := (wMg G md KR ++ wMr G md K KT)) (k0 := 0) C0 (c_MD_touched0 ha hb1 (p_nz (hz _))) q_LW_80 i_MD_touched ⟨Nat.le_of_ble_eq_true rfl, Nat.le_of_ble_eq_true rfl⟩ rfl rfl rfl hP hD hS hA hl.1 rfl (Nat.le_of_ble_eq_true rfl) d_LW_law_536 ⟨(show 200 + 3 * (t + 1) + 0 ≤ 601024 by omega), (show 20000 + 5000 * (t + 1) + 0 ≤ 7293034 by omega)⟩ (fun r H locs hq hj hS => ?_)
    obtain ⟨rfl, hP1, hD1⟩ := hq
    obtain ⟨hP, hD⟩ := hj _ hP1 hD1
    have hP : va_P G.1 sx_cls ((wSC G ad qc qb V F T L tc n CH BE cd rf C1 C2 C3 dp) ++ ((wO G oo (fun _ => (if T (64 * a + b1) = 0 then 0 else 1))) ++ (wMF G md 0 V F T rf dp KR K KT))) H := hP
    have hD : va_D (lw_A s) ((wSC G ad qc qb V F T L tc n CH BE cd rf C1 C2 C3 dp) ++ ((wO G oo (fun _ => (if T (64 * a + b1) = 0 then 0 else 1))) ++ (wMF G md 0 V F T rf dp KR K KT))) := hD
    refine W.widen (k := 200 + 3 * (t + 1)) (n := 20000 + 5000 * (t + 1)) (Nat.le_refl _) (Nat.le_refl _) ?_
    refine lv_istore hx hb d_LW_law_539 hl (by decide) rfl (fun ls hl => ?_)
    have hl : lv_has ls 8 [(6, .int (T (64 * a + b1))), (5, .int 0), (4, .int (nI (6 * t))), (3, .ref oo), (2, .ref (md 0)), (1, .ref (ad 0)), (0, .ref b)] := hl
    refine lv_aload_n hx hb d_LW_law_541 rfl (lv_at hl 4 rfl) ?_
    refine sx_cVP (As := []) (rest := []) (wc := (wM4 G md 0 V F T rf dp)) (k0 := 0) C0 c_MD_thrown q_LW_57 i_MD_thrown ⟨Nat.le_of_ble_eq_true rfl, Nat.le_of_ble_eq_true rfl⟩ rfl rfl rfl (sx_mid (wa := ((wSC G ad qc qb V F T L tc n CH BE cd rf C1 C2 C3 dp) ++ (wO G oo (fun _ => (if T (64 * a + b1) = 0 then 0 else 1))))) (wc := (wM4 G md 0 V F T rf dp)) (wb := (wMg G md KR ++ wMr G md K KT)) hP) hl.1 rfl (Nat.zero_le _) d_LW_law_542 ⟨(show 200 + 3 * (t + 1) ≤ 601024 by omega), (show 20000 + 5000 * (t + 1) ≤ 7293034 by omega)⟩ ?_
    refine lv_iload hx hb d_LW_law_545 (lv_at hl 1 rfl) ?_
    refine lv_icmp_eq (tgt := 552) hx hb d_LW_law_547 (by decide) (fun _ => ?_) (fun z => absurd (rfl) z)
    refine lv_iload hx hb d_LW_law_552 (lv_at hl 1 rfl) ?_
    refine lv_if_ne (tgt := 576) hx hb d_LW_law_554 (by decide) (fun z => absurd (rfl) z) (fun _ => ?_)
    refine lv_aload_n hx hb d_LW_law_557 rfl (lv_at hl 3 rfl) ?_
    refine lv_iconst (v := 0) hx hb d_LW_law_558 (by decide) ?_
    refine sx_lald (i := 0) (v := (if T (64 * a + b1) = 0 then 0 else 1)) C0 hP 11 rfl rfl (by decide) (by decide) rfl d_LW_law_559 ?_
    refine lv_iload hx hb d_LW_law_560 (lv_at hl 0 rfl) ?_
    refine lv_if_eq (tgt := 569) hx hb d_LW_law_562 (by decide) (fun h1 => ?_) (fun h1 => ?_)
    · skip
      refine lv_lconst (v := 0) hx hb d_LW_law_569 (by decide) ?_
      refine sx_lifeq (tgt := 576) C0 d_LW_law_570 d_LW_law_571 (by decide) (fun _ => ?_) (fun z => absurd (if_pos h1) z)
      refine lv_goto (tgt := 635) hx hb d_LW_law_576 (by decide) ?_
      exact kk ls H locs ⟨_, _, _, _, _, _, _, _, _, _, _, _, _, _, _, _, _, _, _, _, _, hinv, hn0, (by omega), (by omega), hP, hD, hS⟩ (lv_sub hl [2, 3, 4, 5, 6] rfl)
    · skip
      refine lv_lconst (v := 1) hx hb d_LW_law_565 (by decide) ?_
      refine lv_goto (tgt := 570) hx hb d_LW_law_566 (by decide) ?_
      refine sx_lifeq (tgt := 576) C0 d_LW_law_570 d_LW_law_571 (by decide) (fun _ => ?_) (fun z => absurd (if_neg h1) z)
      refine lv_goto (tgt := 635) hx hb d_LW_law_576 (by decide) ?_
      exact kk ls H locs ⟨_, _, _, _, _, _, _, _, _, _, _, _, _, _, _, _, _, _, _, _, _, hinv, hn0, (by omega), (by omega), hP, hD, hS⟩ (lv_sub hl [2, 3, 4, 5, 6] rfl)
set_option maxRecDepth 20000 in
theorem law_op7 (C0 : sx_C p s m c code 8 sx_LW G) (hfl : l.flags = flags0) (hTS : sx_TS s) (hX : va_X b LN xs s s.heap) (hbl : b < s.heap.size) (hLN : LN ≤ 3072) (ht : 6 * t + 6 ≤ LN) (hSt : lw_St G ad md oo s t H locs) (hl : lv_has ls 8 [(4, .int (nI (6 * t))), (3, .ref oo), (2, .ref (md 0)), (1, .ref (ad 0)), (0, .ref b)])
    (kk : ∀ (ls : Array Slot) (H : Heap) (locs : List Loc), lw_St G ad md oo s (t + 1) H locs → lv_has ls 8 [(4, .int (nI (6 * t))), (3, .ref oo), (2, .ref (md 0)), (1, .ref (ad 0)), (0, .ref b)] → W p l e room_1 s m args below meth c H locs (200 + 3 * (t + 1)) (20000 + 5000 * (t + 1)) Q (F0 m 635 ls [])) :
    W p l e room_1 s m args below meth c H locs (200 + 3 * t) (20000 + 5000 * t) Q (F0 m 579 ls []) := by
  have hx := C0.1
  have hb := C0.2.1
  have hA : ∀ q, s.heap.size ≤ q → lw_A s q := fun _ h => h
  obtain ⟨qc, qb, V, F, T, L, tc, n, CH, BE, cd, rf, C1, C2, C3, dp, f, fl, KR, K, KT, hinv, hn0, hn, hcd, hP, hD, hS⟩ := hSt
  have htc : tc ≤ 256 := p_tl_le hinv.1
  have hdp : dp ≤ 30 := hinv.2.2.2.1
  have hcn : cd ≤ n := hinv.2.2.1
  have hz : ∀ j, T j = 0 ∨ T j = 1 := p_tl_bool hinv.1
  by_cases ho : xs (6 * t + 1) < 0 ∨ 3 < xs (6 * t + 1)
  · skip
    refine lv_aload_n hx hb d_LW_law_579 rfl (lv_at hl 3 rfl) ?_
    refine lv_aload_n hx hb d_LW_law_580 rfl (lv_at hl 4 rfl) ?_
    refine lv_iload hx hb d_LW_law_581 (lv_at hl 0 rfl) ?_
    refine lv_iconst (v := nI 1) hx hb d_LW_law_583 (by decide +kernel) ?_
    refine lv_iadd hx hb d_LW_law_584 ?_
    refine sx_topi (y := nI (6 * t + 1)) (nI_add _ _) ?_
    refine sx_sld (k := 6 * t + 1) C0 hX hbl (Nat.not_le.mpr hbl) hS (by omega) (by omega) rfl d_LW_law_585 ?_
    refine lv_aload_n hx hb d_LW_law_586 rfl (lv_at hl 1 rfl) ?_
    refine sx_cSW (B := sx_TS) (As := [.ref (ad 0), .int (xs (6 * t + 1)), .ref oo]) (rest := []) (wa := []) (wc := ((wSC G ad qc qb V F T L tc n CH BE cd rf C1 C2 C3 dp) ++ (wO G oo f))) (wb := (wMF G md fl V F T rf dp KR K KT)) C0 (x_LW_count hfl ho) (fun U g mk a h => h.same rfl rfl) q_LW_81 i_LW_count ⟨Nat.le_of_ble_eq_true rfl, Nat.le_of_ble_eq_true rfl⟩ rfl hP hD hS hA (fun U hU hW => hTS.ext hW (fun q hq => by rw [hU]; exact hS.2.1 q hq (Nat.not_le.mpr hq))) hl.1 rfl (Nat.zero_le _) d_LW_law_587 ⟨(show 200 + 3 * t + 1 ≤ 601024 by omega), (show 20000 + 5000 * t + 6 ≤ 7293034 by omega)⟩ (fun r H locs hq hj hS => ?_)
    obtain ⟨rfl, hP1, hD1⟩ := hq
    obtain ⟨hP, hD⟩ := hj _ hP1 hD1
    have hP : va_P G.1 sx_cls ((wSC G ad qc qb V F T L tc n CH BE cd rf C1 C2 C3 dp) ++ ((wO G oo f) ++ (wMF G md fl V F T rf dp KR K KT))) H := hP
    have hD : va_D (lw_A s) ((wSC G ad qc qb V F T L tc n CH BE cd rf C1 C2 C3 dp) ++ ((wO G oo f) ++ (wMF G md fl V F T rf dp KR K KT))) := hD
    refine W.widen (k := 200 + 3 * (t + 1)) (n := 20000 + 5000 * (t + 1)) (show 200 + 3 * t + 1 ≤ 200 + 3 * (t + 1) by omega) (show 20000 + 5000 * t + 6 ≤ 20000 + 5000 * (t + 1) by omega) ?_
    refine lv_istore hx hb d_LW_law_590 hl (by decide) rfl (fun ls hl => ?_)
    have hl : lv_has ls 8 [(5, .int 1), (4, .int (nI (6 * t))), (3, .ref oo), (2, .ref (md 0)), (1, .ref (ad 0)), (0, .ref b)] := hl
    refine lv_aload_n hx hb d_LW_law_592 rfl (lv_at hl 3 rfl) ?_
    refine lv_aload_n hx hb d_LW_law_593 rfl (lv_at hl 5 rfl) ?_
    refine lv_iload hx hb d_LW_law_594 (lv_at hl 1 rfl) ?_
    refine lv_iconst (v := nI 1) hx hb d_LW_law_596 (by decide +kernel) ?_
    refine lv_iadd hx hb d_LW_law_597 ?_
    refine sx_topi (y := nI (6 * t + 1)) (nI_add _ _) ?_
    refine sx_sld (k := 6 * t + 1) C0 hX hbl (Nat.not_le.mpr hbl) hS (by omega) (by omega) rfl d_LW_law_598 ?_
    refine sx_cV (As := [.int (xs (6 * t + 1))]) (rest := []) (wa := ((wSC G ad qc qb V F T L tc n CH BE cd rf C1 C2 C3 dp) ++ (wO G oo f))) (wb := (wMg G md KR ++ wMr G md K KT)) (k0 := 0) C0 (c_MD_count9 ho) q_LW_84 i_MD_count ⟨Nat.le_of_ble_eq_true rfl, Nat.le_of_ble_eq_true rfl⟩ rfl rfl rfl hP hD hS hA hl.1 rfl (Nat.le_of_ble_eq_true rfl) d_LW_law_599 ⟨(show 200 + 3 * (t + 1) + 0 ≤ 601024 by omega), (show 20000 + 5000 * (t + 1) + 0 ≤ 7293034 by omega)⟩ (fun r H locs hq hj hS => ?_)
    obtain ⟨rfl, hP1, hD1⟩ := hq
    obtain ⟨hP, hD⟩ := hj _ hP1 hD1
    have hP : va_P G.1 sx_cls ((wSC G ad qc qb V F T L tc n CH BE cd rf C1 C2 C3 dp) ++ ((wO G oo f) ++ (wMF G md 1 V F T rf dp KR K KT))) H := hP
    have hD : va_D (lw_A s) ((wSC G ad qc qb V F T L tc n CH BE cd rf C1 C2 C3 dp) ++ ((wO G oo f) ++ (wMF G md 1 V F T rf dp KR K KT))) := hD
    refine W.widen (k := 200 + 3 * (t + 1)) (n := 20000 + 5000 * (t + 1)) (Nat.le_refl _) (Nat.le_refl _) ?_
    refine lv_istore hx hb d_LW_law_602 hl (by decide) rfl (fun ls hl => ?_)
    have hl : lv_has ls 8 [(6, .int 0), (5, .int 1), (4, .int (nI (6 * t))), (3, .ref oo), (2, .ref (md 0)), (1, .ref (ad 0)), (0, .ref b)] := hl
    refine lv_aload_n hx hb d_LW_law_604 rfl (lv_at hl 4 rfl) ?_
    refine sx_cVP (As := []) (rest := []) (wc := (wM4 G md 1 V F T rf dp)) (k0 := 0) C0 c_MD_thrown q_LW_57 i_MD_thrown ⟨Nat.le_of_ble_eq_true rfl, Nat.le_of_ble_eq_true rfl⟩ rfl rfl rfl (sx_mid (wa := ((wSC G ad qc qb V F T L tc n CH BE cd rf C1 C2 C3 dp) ++ (wO G oo f))) (wc := (wM4 G md 1 V F T rf dp)) (wb := (wMg G md KR ++ wMr G md K KT)) hP) hl.1 rfl (Nat.zero_le _) d_LW_law_605 ⟨(show 200 + 3 * (t + 1) ≤ 601024 by omega), (show 20000 + 5000 * (t + 1) ≤ 7293034 by omega)⟩ ?_
    refine lv_iload hx hb d_LW_law_608 (lv_at hl 1 rfl) ?_
    refine lv_icmp_eq (tgt := 615) hx hb d_LW_law_610 (by decide) (fun _ => ?_) (fun z => absurd (rfl) z)
    refine lv_iload hx hb d_LW_law_615 (lv_at hl 1 rfl) ?_
    refine lv_if_ne (tgt := 632) hx hb d_LW_law_617 (by decide) (fun _ => ?_) (fun z => absurd z ((by decide)))
    refine lv_goto (tgt := 635) hx hb d_LW_law_632 (by decide) ?_
    exact kk ls H locs ⟨_, _, _, _, _, _, _, _, _, _, _, _, _, _, _, _, _, _, _, _, _, hinv, hn0, (by omega), (by omega), hP, hD, hS⟩ (lv_sub hl [2, 3, 4, 5, 6] rfl)
  · obtain ⟨j, hj, e1⟩ : ∃ j : Nat, j < 4 ∧ xs (6 * t + 1) = nI j := by
      obtain ⟨j, hj, e1⟩ := nI_of (fun z => ho (Or.inl z))
      have h3 : ¬ (3 : Int32) < nI j := fun z => ho (Or.inr (by rw [e1]; exact z))
      rw [show (3 : Int32) = nI 3 by decide +kernel, nI_ltI (by decide) hj] at h3
      exact ⟨j, by omega, e1⟩
    match j, hj with
    | 0, _ =>
      refine lv_aload_n hx hb d_LW_law_579 rfl (lv_at hl 3 rfl) ?_
      refine lv_aload_n hx hb d_LW_law_580 rfl (lv_at hl 4 rfl) ?_
      refine lv_iload hx hb d_LW_law_581 (lv_at hl 0 rfl) ?_
      refine lv_iconst (v := nI 1) hx hb d_LW_law_583 (by decide +kernel) ?_
      refine lv_iadd hx hb d_LW_law_584 ?_
      refine sx_topi (y := nI (6 * t + 1)) (nI_add _ _) ?_
      refine sx_sld (k := 6 * t + 1) C0 hX hbl (Nat.not_le.mpr hbl) hS (by omega) (by omega) rfl d_LW_law_585 ?_
      refine sx_topi (y := nI 0) e1 ?_
      refine lv_aload_n hx hb d_LW_law_586 rfl (lv_at hl 1 rfl) ?_
      refine sx_cSW (B := (fun _ => True)) (As := [.ref (ad 0), .int (nI 0), .ref oo]) (rest := []) (wa := []) (wc := ((wSC G ad qc qb V F T L tc n CH BE cd rf C1 C2 C3 dp) ++ (wO G oo f))) (wb := (wMF G md fl V F T rf dp KR K KT)) C0 c_LW_count0 (fun _ _ _ _ _ => trivial) q_LW_81 i_LW_count ⟨Nat.le_of_ble_eq_true rfl, Nat.le_of_ble_eq_true rfl⟩ rfl hP hD hS hA (fun _ _ _ => trivial) hl.1 rfl (Nat.zero_le _) d_LW_law_587 ⟨(show 200 + 3 * t + 0 ≤ 601024 by omega), (show 20000 + 5000 * t + 0 ≤ 7293034 by omega)⟩ (fun r H locs hq hj hS => ?_)
      obtain ⟨rfl, hP1, hD1⟩ := hq
      obtain ⟨hP, hD⟩ := hj _ hP1 hD1
      have hP : va_P G.1 sx_cls ((wSC G ad qc qb V F T L tc n CH BE cd rf C1 C2 C3 dp) ++ ((wO G oo (fun _ => rf.toInt64)) ++ (wMF G md fl V F T rf dp KR K KT))) H := hP
      have hD : va_D (lw_A s) ((wSC G ad qc qb V F T L tc n CH BE cd rf C1 C2 C3 dp) ++ ((wO G oo (fun _ => rf.toInt64)) ++ (wMF G md fl V F T rf dp KR K KT))) := hD
      refine W.widen (k := 200 + 3 * (t + 1)) (n := 20000 + 5000 * (t + 1)) (show 200 + 3 * t + 0 ≤ 200 + 3 * (t + 1) by omega) (show 20000 + 5000 * t + 0 ≤ 20000 + 5000 * (t + 1) by omega) ?_
      refine lv_istore hx hb d_LW_law_590 hl (by decide) rfl (fun ls hl => ?_)
      have hl : lv_has ls 8 [(5, .int 0), (4, .int (nI (6 * t))), (3, .ref oo), (2, .ref (md 0)), (1, .ref (ad 0)), (0, .ref b)] := hl
      refine lv_aload_n hx hb d_LW_law_592 rfl (lv_at hl 3 rfl) ?_
      refine lv_aload_n hx hb d_LW_law_593 rfl (lv_at hl 5 rfl) ?_
      refine lv_iload hx hb d_LW_law_594 (lv_at hl 1 rfl) ?_
      refine lv_iconst (v := nI 1) hx hb d_LW_law_596 (by decide +kernel) ?_
      refine lv_iadd hx hb d_LW_law_597 ?_
      refine sx_topi (y := nI (6 * t + 1)) (nI_add _ _) ?_
      refine sx_sld (k := 6 * t + 1) C0 hX hbl (Nat.not_le.mpr hbl) hS (by omega) (by omega) rfl d_LW_law_598 ?_
      refine sx_topi (y := nI 0) e1 ?_
      refine sx_cV (As := [.int (nI 0)]) (rest := []) (wa := ((wSC G ad qc qb V F T L tc n CH BE cd rf C1 C2 C3 dp) ++ (wO G oo (fun _ => rf.toInt64)))) (wb := (wMg G md KR ++ wMr G md K KT)) (k0 := 0) C0 c_MD_count0 q_LW_84 i_MD_count ⟨Nat.le_of_ble_eq_true rfl, Nat.le_of_ble_eq_true rfl⟩ rfl rfl rfl hP hD hS hA hl.1 rfl (Nat.le_of_ble_eq_true rfl) d_LW_law_599 ⟨(show 200 + 3 * (t + 1) + 0 ≤ 601024 by omega), (show 20000 + 5000 * (t + 1) + 0 ≤ 7293034 by omega)⟩ (fun r H locs hq hj hS => ?_)
      obtain ⟨rfl, hP1, hD1⟩ := hq
      obtain ⟨hP, hD⟩ := hj _ hP1 hD1
      have hP : va_P G.1 sx_cls ((wSC G ad qc qb V F T L tc n CH BE cd rf C1 C2 C3 dp) ++ ((wO G oo (fun _ => rf.toInt64)) ++ (wMF G md 0 V F T rf dp KR K KT))) H := hP
      have hD : va_D (lw_A s) ((wSC G ad qc qb V F T L tc n CH BE cd rf C1 C2 C3 dp) ++ ((wO G oo (fun _ => rf.toInt64)) ++ (wMF G md 0 V F T rf dp KR K KT))) := hD
      refine W.widen (k := 200 + 3 * (t + 1)) (n := 20000 + 5000 * (t + 1)) (Nat.le_refl _) (Nat.le_refl _) ?_
      refine lv_istore hx hb d_LW_law_602 hl (by decide) rfl (fun ls hl => ?_)
      have hl : lv_has ls 8 [(6, .int rf), (5, .int 0), (4, .int (nI (6 * t))), (3, .ref oo), (2, .ref (md 0)), (1, .ref (ad 0)), (0, .ref b)] := hl
      refine lv_aload_n hx hb d_LW_law_604 rfl (lv_at hl 4 rfl) ?_
      refine sx_cVP (As := []) (rest := []) (wc := (wM4 G md 0 V F T rf dp)) (k0 := 0) C0 c_MD_thrown q_LW_57 i_MD_thrown ⟨Nat.le_of_ble_eq_true rfl, Nat.le_of_ble_eq_true rfl⟩ rfl rfl rfl (sx_mid (wa := ((wSC G ad qc qb V F T L tc n CH BE cd rf C1 C2 C3 dp) ++ (wO G oo (fun _ => rf.toInt64)))) (wc := (wM4 G md 0 V F T rf dp)) (wb := (wMg G md KR ++ wMr G md K KT)) hP) hl.1 rfl (Nat.zero_le _) d_LW_law_605 ⟨(show 200 + 3 * (t + 1) ≤ 601024 by omega), (show 20000 + 5000 * (t + 1) ≤ 7293034 by omega)⟩ ?_
      refine lv_iload hx hb d_LW_law_608 (lv_at hl 1 rfl) ?_
      refine lv_icmp_eq (tgt := 615) hx hb d_LW_law_610 (by decide) (fun _ => ?_) (fun z => absurd (rfl) z)
      refine lv_iload hx hb d_LW_law_615 (lv_at hl 1 rfl) ?_
      refine lv_if_ne (tgt := 632) hx hb d_LW_law_617 (by decide) (fun z => absurd (rfl) z) (fun _ => ?_)
      refine lv_aload_n hx hb d_LW_law_620 rfl (lv_at hl 3 rfl) ?_
      refine lv_iconst (v := 0) hx hb d_LW_law_621 (by decide) ?_
      refine sx_lald (i := 0) (v := rf.toInt64) C0 hP 11 rfl rfl (by decide) (by decide) rfl d_LW_law_622 ?_
      refine lv_iload hx hb d_LW_law_623 (lv_at hl 0 rfl) ?_
      refine lv_i2l (v := rf.toInt64) hx hb d_LW_law_625 rfl ?_
      refine sx_lifeq (tgt := 632) C0 d_LW_law_626 d_LW_law_627 (by decide) (fun _ => ?_) (fun z => absurd rfl z)
      refine lv_goto (tgt := 635) hx hb d_LW_law_632 (by decide) ?_
      exact kk ls H locs ⟨_, _, _, _, _, _, _, _, _, _, _, _, _, _, _, _, _, _, _, _, _, hinv, hn0, (by omega), (by omega), hP, hD, hS⟩ (lv_sub hl [2, 3, 4, 5, 6] rfl)
    | 1, _ =>
      refine lv_aload_n hx hb d_LW_law_579 rfl (lv_at hl 3 rfl) ?_
      refine lv_aload_n hx hb d_LW_law_580 rfl (lv_at hl 4 rfl) ?_
      refine lv_iload hx hb d_LW_law_581 (lv_at hl 0 rfl) ?_
      refine lv_iconst (v := nI 1) hx hb d_LW_law_583 (by decide +kernel) ?_
      refine lv_iadd hx hb d_LW_law_584 ?_
      refine sx_topi (y := nI (6 * t + 1)) (nI_add _ _) ?_
      refine sx_sld (k := 6 * t + 1) C0 hX hbl (Nat.not_le.mpr hbl) hS (by omega) (by omega) rfl d_LW_law_585 ?_
      refine sx_topi (y := nI 1) e1 ?_
      refine lv_aload_n hx hb d_LW_law_586 rfl (lv_at hl 1 rfl) ?_
      refine sx_cSW (B := (fun _ => True)) (As := [.ref (ad 0), .int (nI 1), .ref oo]) (rest := []) (wa := []) (wc := ((wSC G ad qc qb V F T L tc n CH BE cd rf C1 C2 C3 dp) ++ (wO G oo f))) (wb := (wMF G md fl V F T rf dp KR K KT)) C0 c_LW_count1 (fun _ _ _ _ _ => trivial) q_LW_81 i_LW_count ⟨Nat.le_of_ble_eq_true rfl, Nat.le_of_ble_eq_true rfl⟩ rfl hP hD hS hA (fun _ _ _ => trivial) hl.1 rfl (Nat.zero_le _) d_LW_law_587 ⟨(show 200 + 3 * t + 0 ≤ 601024 by omega), (show 20000 + 5000 * t + 0 ≤ 7293034 by omega)⟩ (fun r H locs hq hj hS => ?_)
      obtain ⟨rfl, hP1, hD1⟩ := hq
      obtain ⟨hP, hD⟩ := hj _ hP1 hD1
      have hP : va_P G.1 sx_cls ((wSC G ad qc qb V F T L tc n CH BE cd rf C1 C2 C3 dp) ++ ((wO G oo (fun _ => (nI tc).toInt64)) ++ (wMF G md fl V F T rf dp KR K KT))) H := hP
      have hD : va_D (lw_A s) ((wSC G ad qc qb V F T L tc n CH BE cd rf C1 C2 C3 dp) ++ ((wO G oo (fun _ => (nI tc).toInt64)) ++ (wMF G md fl V F T rf dp KR K KT))) := hD
      refine W.widen (k := 200 + 3 * (t + 1)) (n := 20000 + 5000 * (t + 1)) (show 200 + 3 * t + 0 ≤ 200 + 3 * (t + 1) by omega) (show 20000 + 5000 * t + 0 ≤ 20000 + 5000 * (t + 1) by omega) ?_
      refine lv_istore hx hb d_LW_law_590 hl (by decide) rfl (fun ls hl => ?_)
      have hl : lv_has ls 8 [(5, .int 0), (4, .int (nI (6 * t))), (3, .ref oo), (2, .ref (md 0)), (1, .ref (ad 0)), (0, .ref b)] := hl
      refine lv_aload_n hx hb d_LW_law_592 rfl (lv_at hl 3 rfl) ?_
      refine lv_aload_n hx hb d_LW_law_593 rfl (lv_at hl 5 rfl) ?_
      refine lv_iload hx hb d_LW_law_594 (lv_at hl 1 rfl) ?_
      refine lv_iconst (v := nI 1) hx hb d_LW_law_596 (by decide +kernel) ?_
      refine lv_iadd hx hb d_LW_law_597 ?_
      refine sx_topi (y := nI (6 * t + 1)) (nI_add _ _) ?_
      refine sx_sld (k := 6 * t + 1) C0 hX hbl (Nat.not_le.mpr hbl) hS (by omega) (by omega) rfl d_LW_law_598 ?_
      refine sx_topi (y := nI 1) e1 ?_
      refine sx_cV (As := [.int (nI 1)]) (rest := []) (wa := ((wSC G ad qc qb V F T L tc n CH BE cd rf C1 C2 C3 dp) ++ (wO G oo (fun _ => (nI tc).toInt64)))) (wb := (wMg G md KR ++ wMr G md K KT)) (k0 := 0) C0 c_MD_count1 q_LW_84 i_MD_count ⟨Nat.le_of_ble_eq_true rfl, Nat.le_of_ble_eq_true rfl⟩ rfl rfl rfl hP hD hS hA hl.1 rfl (Nat.le_of_ble_eq_true rfl) d_LW_law_599 ⟨(show 200 + 3 * (t + 1) + 0 ≤ 601024 by omega), (show 20000 + 5000 * (t + 1) + 0 ≤ 7293034 by omega)⟩ (fun r H locs hq hj hS => ?_)
      obtain ⟨rfl, hP1, hD1⟩ := hq
      obtain ⟨hP, hD⟩ := hj _ hP1 hD1
      have hP : va_P G.1 sx_cls ((wSC G ad qc qb V F T L tc n CH BE cd rf C1 C2 C3 dp) ++ ((wO G oo (fun _ => (nI tc).toInt64)) ++ (wMF G md 0 V F T rf dp KR K KT))) H := hP
      have hD : va_D (lw_A s) ((wSC G ad qc qb V F T L tc n CH BE cd rf C1 C2 C3 dp) ++ ((wO G oo (fun _ => (nI tc).toInt64)) ++ (wMF G md 0 V F T rf dp KR K KT))) := hD
      refine W.widen (k := 200 + 3 * (t + 1)) (n := 20000 + 5000 * (t + 1)) (Nat.le_refl _) (Nat.le_refl _) ?_
      refine lv_istore hx hb d_LW_law_602 hl (by decide) rfl (fun ls hl => ?_)
      have hl : lv_has ls 8 [(6, .int (nI (p_cnT T 256))), (5, .int 0), (4, .int (nI (6 * t))), (3, .ref oo), (2, .ref (md 0)), (1, .ref (ad 0)), (0, .ref b)] := hl
      refine lv_aload_n hx hb d_LW_law_604 rfl (lv_at hl 4 rfl) ?_
      refine sx_cVP (As := []) (rest := []) (wc := (wM4 G md 0 V F T rf dp)) (k0 := 0) C0 c_MD_thrown q_LW_57 i_MD_thrown ⟨Nat.le_of_ble_eq_true rfl, Nat.le_of_ble_eq_true rfl⟩ rfl rfl rfl (sx_mid (wa := ((wSC G ad qc qb V F T L tc n CH BE cd rf C1 C2 C3 dp) ++ (wO G oo (fun _ => (nI tc).toInt64)))) (wc := (wM4 G md 0 V F T rf dp)) (wb := (wMg G md KR ++ wMr G md K KT)) hP) hl.1 rfl (Nat.zero_le _) d_LW_law_605 ⟨(show 200 + 3 * (t + 1) ≤ 601024 by omega), (show 20000 + 5000 * (t + 1) ≤ 7293034 by omega)⟩ ?_
      refine lv_iload hx hb d_LW_law_608 (lv_at hl 1 rfl) ?_
      refine lv_icmp_eq (tgt := 615) hx hb d_LW_law_610 (by decide) (fun _ => ?_) (fun z => absurd (rfl) z)
      refine lv_iload hx hb d_LW_law_615 (lv_at hl 1 rfl) ?_
      refine lv_if_ne (tgt := 632) hx hb d_LW_law_617 (by decide) (fun z => absurd (rfl) z) (fun _ => ?_)
      refine lv_aload_n hx hb d_LW_law_620 rfl (lv_at hl 3 rfl) ?_
      refine lv_iconst (v := 0) hx hb d_LW_law_621 (by decide) ?_
      refine sx_lald (i := 0) (v := (nI tc).toInt64) C0 hP 11 rfl rfl (by decide) (by decide) rfl d_LW_law_622 ?_
      refine lv_iload hx hb d_LW_law_623 (lv_at hl 0 rfl) ?_
      refine lv_i2l (v := (nI (p_cnT T 256)).toInt64) hx hb d_LW_law_625 rfl ?_
      refine sx_lifeq (tgt := 632) C0 d_LW_law_626 d_LW_law_627 (by decide) (fun _ => ?_) (fun z => absurd (by rw [p_tl_cnt hinv.1]) z)
      refine lv_goto (tgt := 635) hx hb d_LW_law_632 (by decide) ?_
      exact kk ls H locs ⟨_, _, _, _, _, _, _, _, _, _, _, _, _, _, _, _, _, _, _, _, _, hinv, hn0, (by omega), (by omega), hP, hD, hS⟩ (lv_sub hl [2, 3, 4, 5, 6] rfl)
    | 2, _ =>
      refine lv_aload_n hx hb d_LW_law_579 rfl (lv_at hl 3 rfl) ?_
      refine lv_aload_n hx hb d_LW_law_580 rfl (lv_at hl 4 rfl) ?_
      refine lv_iload hx hb d_LW_law_581 (lv_at hl 0 rfl) ?_
      refine lv_iconst (v := nI 1) hx hb d_LW_law_583 (by decide +kernel) ?_
      refine lv_iadd hx hb d_LW_law_584 ?_
      refine sx_topi (y := nI (6 * t + 1)) (nI_add _ _) ?_
      refine sx_sld (k := 6 * t + 1) C0 hX hbl (Nat.not_le.mpr hbl) hS (by omega) (by omega) rfl d_LW_law_585 ?_
      refine sx_topi (y := nI 2) e1 ?_
      refine lv_aload_n hx hb d_LW_law_586 rfl (lv_at hl 1 rfl) ?_
      refine sx_cSW (B := (fun _ => True)) (As := [.ref (ad 0), .int (nI 2), .ref oo]) (rest := []) (wa := []) (wc := ((wSC G ad qc qb V F T L tc n CH BE cd rf C1 C2 C3 dp) ++ (wO G oo f))) (wb := (wMF G md fl V F T rf dp KR K KT)) C0 c_LW_count2 (fun _ _ _ _ _ => trivial) q_LW_81 i_LW_count ⟨Nat.le_of_ble_eq_true rfl, Nat.le_of_ble_eq_true rfl⟩ rfl hP hD hS hA (fun _ _ _ => trivial) hl.1 rfl (Nat.zero_le _) d_LW_law_587 ⟨(show 200 + 3 * t + 0 ≤ 601024 by omega), (show 20000 + 5000 * t + 0 ≤ 7293034 by omega)⟩ (fun r H locs hq hj hS => ?_)
      obtain ⟨rfl, hP1, hD1⟩ := hq
      obtain ⟨hP, hD⟩ := hj _ hP1 hD1
      have hP : va_P G.1 sx_cls ((wSC G ad qc qb V F T L tc n CH BE cd rf C1 C2 C3 dp) ++ ((wO G oo (fun _ => (nI dp).toInt64)) ++ (wMF G md fl V F T rf dp KR K KT))) H := hP
      have hD : va_D (lw_A s) ((wSC G ad qc qb V F T L tc n CH BE cd rf C1 C2 C3 dp) ++ ((wO G oo (fun _ => (nI dp).toInt64)) ++ (wMF G md fl V F T rf dp KR K KT))) := hD
      refine W.widen (k := 200 + 3 * (t + 1)) (n := 20000 + 5000 * (t + 1)) (show 200 + 3 * t + 0 ≤ 200 + 3 * (t + 1) by omega) (show 20000 + 5000 * t + 0 ≤ 20000 + 5000 * (t + 1) by omega) ?_
      refine lv_istore hx hb d_LW_law_590 hl (by decide) rfl (fun ls hl => ?_)
      have hl : lv_has ls 8 [(5, .int 0), (4, .int (nI (6 * t))), (3, .ref oo), (2, .ref (md 0)), (1, .ref (ad 0)), (0, .ref b)] := hl
      refine lv_aload_n hx hb d_LW_law_592 rfl (lv_at hl 3 rfl) ?_
      refine lv_aload_n hx hb d_LW_law_593 rfl (lv_at hl 5 rfl) ?_
      refine lv_iload hx hb d_LW_law_594 (lv_at hl 1 rfl) ?_
      refine lv_iconst (v := nI 1) hx hb d_LW_law_596 (by decide +kernel) ?_
      refine lv_iadd hx hb d_LW_law_597 ?_
      refine sx_topi (y := nI (6 * t + 1)) (nI_add _ _) ?_
      refine sx_sld (k := 6 * t + 1) C0 hX hbl (Nat.not_le.mpr hbl) hS (by omega) (by omega) rfl d_LW_law_598 ?_
      refine sx_topi (y := nI 2) e1 ?_
      refine sx_cV (As := [.int (nI 2)]) (rest := []) (wa := ((wSC G ad qc qb V F T L tc n CH BE cd rf C1 C2 C3 dp) ++ (wO G oo (fun _ => (nI dp).toInt64)))) (wb := (wMg G md KR ++ wMr G md K KT)) (k0 := 0) C0 c_MD_count2 q_LW_84 i_MD_count ⟨Nat.le_of_ble_eq_true rfl, Nat.le_of_ble_eq_true rfl⟩ rfl rfl rfl hP hD hS hA hl.1 rfl (Nat.le_of_ble_eq_true rfl) d_LW_law_599 ⟨(show 200 + 3 * (t + 1) + 0 ≤ 601024 by omega), (show 20000 + 5000 * (t + 1) + 0 ≤ 7293034 by omega)⟩ (fun r H locs hq hj hS => ?_)
      obtain ⟨rfl, hP1, hD1⟩ := hq
      obtain ⟨hP, hD⟩ := hj _ hP1 hD1
      have hP : va_P G.1 sx_cls ((wSC G ad qc qb V F T L tc n CH BE cd rf C1 C2 C3 dp) ++ ((wO G oo (fun _ => (nI dp).toInt64)) ++ (wMF G md 0 V F T rf dp KR K KT))) H := hP
      have hD : va_D (lw_A s) ((wSC G ad qc qb V F T L tc n CH BE cd rf C1 C2 C3 dp) ++ ((wO G oo (fun _ => (nI dp).toInt64)) ++ (wMF G md 0 V F T rf dp KR K KT))) := hD
      refine W.widen (k := 200 + 3 * (t + 1)) (n := 20000 + 5000 * (t + 1)) (Nat.le_refl _) (Nat.le_refl _) ?_
      refine lv_istore hx hb d_LW_law_602 hl (by decide) rfl (fun ls hl => ?_)
      have hl : lv_has ls 8 [(6, .int (nI dp)), (5, .int 0), (4, .int (nI (6 * t))), (3, .ref oo), (2, .ref (md 0)), (1, .ref (ad 0)), (0, .ref b)] := hl
      refine lv_aload_n hx hb d_LW_law_604 rfl (lv_at hl 4 rfl) ?_
      refine sx_cVP (As := []) (rest := []) (wc := (wM4 G md 0 V F T rf dp)) (k0 := 0) C0 c_MD_thrown q_LW_57 i_MD_thrown ⟨Nat.le_of_ble_eq_true rfl, Nat.le_of_ble_eq_true rfl⟩ rfl rfl rfl (sx_mid (wa := ((wSC G ad qc qb V F T L tc n CH BE cd rf C1 C2 C3 dp) ++ (wO G oo (fun _ => (nI dp).toInt64)))) (wc := (wM4 G md 0 V F T rf dp)) (wb := (wMg G md KR ++ wMr G md K KT)) hP) hl.1 rfl (Nat.zero_le _) d_LW_law_605 ⟨(show 200 + 3 * (t + 1) ≤ 601024 by omega), (show 20000 + 5000 * (t + 1) ≤ 7293034 by omega)⟩ ?_
      refine lv_iload hx hb d_LW_law_608 (lv_at hl 1 rfl) ?_
      refine lv_icmp_eq (tgt := 615) hx hb d_LW_law_610 (by decide) (fun _ => ?_) (fun z => absurd (rfl) z)
      refine lv_iload hx hb d_LW_law_615 (lv_at hl 1 rfl) ?_
      refine lv_if_ne (tgt := 632) hx hb d_LW_law_617 (by decide) (fun z => absurd (rfl) z) (fun _ => ?_)
      refine lv_aload_n hx hb d_LW_law_620 rfl (lv_at hl 3 rfl) ?_
      refine lv_iconst (v := 0) hx hb d_LW_law_621 (by decide) ?_
      refine sx_lald (i := 0) (v := (nI dp).toInt64) C0 hP 11 rfl rfl (by decide) (by decide) rfl d_LW_law_622 ?_
      refine lv_iload hx hb d_LW_law_623 (lv_at hl 0 rfl) ?_
      refine lv_i2l (v := (nI dp).toInt64) hx hb d_LW_law_625 rfl ?_
      refine sx_lifeq (tgt := 632) C0 d_LW_law_626 d_LW_law_627 (by decide) (fun _ => ?_) (fun z => absurd rfl z)
      refine lv_goto (tgt := 635) hx hb d_LW_law_632 (by decide) ?_
      exact kk ls H locs ⟨_, _, _, _, _, _, _, _, _, _, _, _, _, _, _, _, _, _, _, _, _, hinv, hn0, (by omega), (by omega), hP, hD, hS⟩ (lv_sub hl [2, 3, 4, 5, 6] rfl)
    | 3, _ =>
      refine lv_aload_n hx hb d_LW_law_579 rfl (lv_at hl 3 rfl) ?_
      refine lv_aload_n hx hb d_LW_law_580 rfl (lv_at hl 4 rfl) ?_
      refine lv_iload hx hb d_LW_law_581 (lv_at hl 0 rfl) ?_
      refine lv_iconst (v := nI 1) hx hb d_LW_law_583 (by decide +kernel) ?_
      refine lv_iadd hx hb d_LW_law_584 ?_
      refine sx_topi (y := nI (6 * t + 1)) (nI_add _ _) ?_
      refine sx_sld (k := 6 * t + 1) C0 hX hbl (Nat.not_le.mpr hbl) hS (by omega) (by omega) rfl d_LW_law_585 ?_
      refine sx_topi (y := nI 3) e1 ?_
      refine lv_aload_n hx hb d_LW_law_586 rfl (lv_at hl 1 rfl) ?_
      refine sx_cSW (B := (fun _ => True)) (As := [.ref (ad 0), .int (nI 3), .ref oo]) (rest := []) (wa := []) (wc := ((wSC G ad qc qb V F T L tc n CH BE cd rf C1 C2 C3 dp) ++ (wO G oo f))) (wb := (wMF G md fl V F T rf dp KR K KT)) C0 c_LW_count3 (fun _ _ _ _ _ => trivial) q_LW_81 i_LW_count ⟨Nat.le_of_ble_eq_true rfl, Nat.le_of_ble_eq_true rfl⟩ rfl hP hD hS hA (fun _ _ _ => trivial) hl.1 rfl (Nat.zero_le _) d_LW_law_587 ⟨(show 200 + 3 * t + 0 ≤ 601024 by omega), (show 20000 + 5000 * t + 0 ≤ 7293034 by omega)⟩ (fun r H locs hq hj hS => ?_)
      obtain ⟨rfl, hP1, hD1⟩ := hq
      obtain ⟨hP, hD⟩ := hj _ hP1 hD1
      have hP : va_P G.1 sx_cls ((wSC G ad qc qb V F T L tc n CH BE cd rf C1 C2 C3 dp) ++ ((wO G oo (fun _ => (nI (p_cnL V 256)).toInt64)) ++ (wMF G md fl V F T rf dp KR K KT))) H := hP
      have hD : va_D (lw_A s) ((wSC G ad qc qb V F T L tc n CH BE cd rf C1 C2 C3 dp) ++ ((wO G oo (fun _ => (nI (p_cnL V 256)).toInt64)) ++ (wMF G md fl V F T rf dp KR K KT))) := hD
      refine W.widen (k := 200 + 3 * (t + 1)) (n := 20000 + 5000 * (t + 1)) (show 200 + 3 * t + 0 ≤ 200 + 3 * (t + 1) by omega) (show 20000 + 5000 * t + 0 ≤ 20000 + 5000 * (t + 1) by omega) ?_
      refine lv_istore hx hb d_LW_law_590 hl (by decide) rfl (fun ls hl => ?_)
      have hl : lv_has ls 8 [(5, .int 0), (4, .int (nI (6 * t))), (3, .ref oo), (2, .ref (md 0)), (1, .ref (ad 0)), (0, .ref b)] := hl
      refine lv_aload_n hx hb d_LW_law_592 rfl (lv_at hl 3 rfl) ?_
      refine lv_aload_n hx hb d_LW_law_593 rfl (lv_at hl 5 rfl) ?_
      refine lv_iload hx hb d_LW_law_594 (lv_at hl 1 rfl) ?_
      refine lv_iconst (v := nI 1) hx hb d_LW_law_596 (by decide +kernel) ?_
      refine lv_iadd hx hb d_LW_law_597 ?_
      refine sx_topi (y := nI (6 * t + 1)) (nI_add _ _) ?_
      refine sx_sld (k := 6 * t + 1) C0 hX hbl (Nat.not_le.mpr hbl) hS (by omega) (by omega) rfl d_LW_law_598 ?_
      refine sx_topi (y := nI 3) e1 ?_
      refine sx_cV (As := [.int (nI 3)]) (rest := []) (wa := ((wSC G ad qc qb V F T L tc n CH BE cd rf C1 C2 C3 dp) ++ (wO G oo (fun _ => (nI (p_cnL V 256)).toInt64)))) (wb := (wMg G md KR ++ wMr G md K KT)) (k0 := 0) C0 c_MD_count3 q_LW_84 i_MD_count ⟨Nat.le_of_ble_eq_true rfl, Nat.le_of_ble_eq_true rfl⟩ rfl rfl rfl hP hD hS hA hl.1 rfl (Nat.le_of_ble_eq_true rfl) d_LW_law_599 ⟨(show 200 + 3 * (t + 1) + 0 ≤ 601024 by omega), (show 20000 + 5000 * (t + 1) + 0 ≤ 7293034 by omega)⟩ (fun r H locs hq hj hS => ?_)
      obtain ⟨rfl, hP1, hD1⟩ := hq
      obtain ⟨hP, hD⟩ := hj _ hP1 hD1
      have hP : va_P G.1 sx_cls ((wSC G ad qc qb V F T L tc n CH BE cd rf C1 C2 C3 dp) ++ ((wO G oo (fun _ => (nI (p_cnL V 256)).toInt64)) ++ (wMF G md 0 V F T rf dp KR K KT))) H := hP
      have hD : va_D (lw_A s) ((wSC G ad qc qb V F T L tc n CH BE cd rf C1 C2 C3 dp) ++ ((wO G oo (fun _ => (nI (p_cnL V 256)).toInt64)) ++ (wMF G md 0 V F T rf dp KR K KT))) := hD
      refine W.widen (k := 200 + 3 * (t + 1)) (n := 20000 + 5000 * (t + 1)) (Nat.le_refl _) (Nat.le_refl _) ?_
      refine lv_istore hx hb d_LW_law_602 hl (by decide) rfl (fun ls hl => ?_)
      have hl : lv_has ls 8 [(6, .int (nI (p_cnL V 256))), (5, .int 0), (4, .int (nI (6 * t))), (3, .ref oo), (2, .ref (md 0)), (1, .ref (ad 0)), (0, .ref b)] := hl
      refine lv_aload_n hx hb d_LW_law_604 rfl (lv_at hl 4 rfl) ?_
      refine sx_cVP (As := []) (rest := []) (wc := (wM4 G md 0 V F T rf dp)) (k0 := 0) C0 c_MD_thrown q_LW_57 i_MD_thrown ⟨Nat.le_of_ble_eq_true rfl, Nat.le_of_ble_eq_true rfl⟩ rfl rfl rfl (sx_mid (wa := ((wSC G ad qc qb V F T L tc n CH BE cd rf C1 C2 C3 dp) ++ (wO G oo (fun _ => (nI (p_cnL V 256)).toInt64)))) (wc := (wM4 G md 0 V F T rf dp)) (wb := (wMg G md KR ++ wMr G md K KT)) hP) hl.1 rfl (Nat.zero_le _) d_LW_law_605 ⟨(show 200 + 3 * (t + 1) ≤ 601024 by omega), (show 20000 + 5000 * (t + 1) ≤ 7293034 by omega)⟩ ?_
      refine lv_iload hx hb d_LW_law_608 (lv_at hl 1 rfl) ?_
      refine lv_icmp_eq (tgt := 615) hx hb d_LW_law_610 (by decide) (fun _ => ?_) (fun z => absurd (rfl) z)
      refine lv_iload hx hb d_LW_law_615 (lv_at hl 1 rfl) ?_
      refine lv_if_ne (tgt := 632) hx hb d_LW_law_617 (by decide) (fun z => absurd (rfl) z) (fun _ => ?_)
      refine lv_aload_n hx hb d_LW_law_620 rfl (lv_at hl 3 rfl) ?_
      refine lv_iconst (v := 0) hx hb d_LW_law_621 (by decide) ?_
      refine sx_lald (i := 0) (v := (nI (p_cnL V 256)).toInt64) C0 hP 11 rfl rfl (by decide) (by decide) rfl d_LW_law_622 ?_
      refine lv_iload hx hb d_LW_law_623 (lv_at hl 0 rfl) ?_
      refine lv_i2l (v := (nI (p_cnL V 256)).toInt64) hx hb d_LW_law_625 rfl ?_
      refine sx_lifeq (tgt := 632) C0 d_LW_law_626 d_LW_law_627 (by decide) (fun _ => ?_) (fun z => absurd rfl z)
      refine lv_goto (tgt := 635) hx hb d_LW_law_632 (by decide) ?_
      exact kk ls H locs ⟨_, _, _, _, _, _, _, _, _, _, _, _, _, _, _, _, _, _, _, _, _, hinv, hn0, (by omega), (by omega), hP, hD, hS⟩ (lv_sub hl [2, 3, 4, 5, 6] rfl)
end SO3
end
section
def lw_P (b : Addr) (xs : List Int32) (args : Array Value) (s : State) : Prop := args = #[.ref b] ∧ s.IntsAt b xs ∧ xs.length ≤ 3072 ∧ (Jvm.Cond.and given_1 narrow_1).before args s = true
def lw_Q (_ : Array Value) (s : State) (o : Outcome) (t : State) : Prop := o = .returned (some (.int 1)) ∧ Framed s o t [] 601024 7293034
def lw_Z (below : List Frame) (a : Array Value) (s : State) : State → Prop := fun t => ∃ o, t.status = .running ∧ Ended t below o ∧ lw_Q a s o t
/-- the law's own end, with 1 on the stack, nothing written that was there before, its room as the claim has it -/
theorem lw_ret {p : Program} {l : Launch} {e : Env} {s : State} {m : MethodId} {below : List Frame} {meth : Method} {c : Code} {b : Nat} (hx : p.tables.exec = Jvm.exec) (hb : c.code = code) (hr : meth.sig.returnType = ret) (hlocks : meth.locks = false) {pc : Nat} {H : Heap} {ls : Array Slot} (hdg : decode code pc = .ok (.ireturn, 1)) : W p l e room_1 s m #[Value.ref b] below meth c H [] 601024 7293034 (lw_Z below #[Value.ref b] s) (F0 m pc ls [.int 1]) := by
  intro T hT X
  obtain ⟨fs, hret, hrun, hended, hW, hframe⟩ := X.leave (v := some (.int 1)) (hlocks := hlocks) (fun h => by rw [hr] at h; cases h)
  have hmeth' : T.vm.method? m = some meth := X.method'
  refine ⟨T.setFrames fs, ?_, .returned (some (.int 1)), hrun, hended, rfl, ⟨_, rfl⟩, hW, hframe⟩
  jvm_step X.here [X.here.top, hx, hb, hdg, hmeth', hr, ret, narrow_b1]
  (try refine ⟨rfl, ?_⟩); (try refine ⟨rfl, ?_⟩)
  first | (intro acts; rw [hret _ acts rfl rfl rfl]) | rw [hret _ _ rfl rfl rfl]
  exact Steps.refl _
/-- what holds at the law's entry: the machine, the code, the tables' words (any of lw_tbl by 'hts w (by decide +kernel)'), the script of L ints xs at the cell b, what the Statement gives of the start (any of its parts by flat_of_before) -/
def lw_At (p : Program) (s : State) (m : MethodId) (meth : Method) (c : Code) (b L : Nat) (xs : Nat → Int32) : Prop :=
  p.tables.exec = Jvm.exec ∧ c.code = code ∧ meth.sig.returnType = ret ∧ c.maxLocals = 8 ∧ s.vm.findClass R_law = some m.cls ∧ (∀ w ∈ lw_tbl, w.before #[Value.ref b] s = true) ∧ va_X b L xs s s.heap ∧ b < s.heap.size ∧ meth.locks = false ∧ (Jvm.Cond.and given_1 narrow_1).before #[Value.ref b] s = true
theorem sx_over {args : Array Value} {s : State} {t : FieldType} (h : (Jvm.Cond.arrayOver (.array t)).before args s = true) :
    ∃ comp cA k, s.vm.findClass (FieldType.array t).toString = some comp ∧ s.vm.classes[cA]? = some k ∧ k.kind = .array comp (.array t) ∧ s.vm.findClass ("[" ++ (FieldType.array t).toString) = some cA := by
  simp only [Jvm.Cond.before, Jvm.Cond.holds, Jvm.Cond.value, beq_iff_eq] at h
  cases hc : s.vm.findClass (FieldType.array t).toString with
  | none => rw [hc] at h; simp at h
  | some comp =>
    rw [hc, Option.bind_some] at h
    obtain ⟨cA, hi, h⟩ := Option.bind_eq_some_iff.mp h
    obtain ⟨k, hk, hb⟩ := Option.map_eq_some_iff.mp h
    obtain ⟨hlt, hp, -⟩ := Array.findIdx?_eq_some_iff_getElem.mp hi
    rw [(Array.getElem?_eq_some_iff.mp hk).2] at hp
    cases hkind : k.kind with
    | array component ty =>
      rw [hkind] at hb hp
      simp only [Bool.and_eq_true, decide_eq_true_eq, beq_iff_eq] at hb hp
      exact ⟨comp, cA, k, rfl, hk, by rw [hkind, hp, hb.1], hb.2⟩
    | _ => rw [hkind] at hb; simp at hb
theorem sx_start {args : Array Value} {s : State} (hts : ∀ w ∈ lw_tbl, w.before args s = true) (hnc : va_Nc "java/lang/IllegalStateException" "java/lang/IllegalArgumentException" s) : ∃ G : sx_G, sx_CX G s := by
  have hlay : ∀ {C : String} {T : u_T} {N : Nat}, (∀ w ∈ u_ws C T N, w ∈ lw_tbl) → ∀ w ∈ u_ws C T N, w.before args s = true := fun h w hw => hts w (h w hw)
  obtain ⟨c0, i0, k0⟩ := u_known (hlay sx_w_SC) (fun _ h => h) (hts _ sx_is_SC)
  obtain ⟨c1, i1, k1⟩ := u_known (hlay sx_w_ST) (fun _ h => h) (hts _ sx_is_ST)
  obtain ⟨c2, i2, k2⟩ := u_known (hlay sx_w_MD) (fun _ h => h) (hts _ sx_is_MD)
  obtain ⟨cI, kI, pI, nI1, nI2, nI3⟩ := Jvm.Cond.arrayClass_spec (hts _ sx_ac_int)
  obtain ⟨cJ, kJ, pJ, nJ1, nJ2, nJ3⟩ := Jvm.Cond.arrayClass_spec (hts _ sx_ac_long)
  obtain ⟨cZ, kZ, pZ, nZ1, nZ2, nZ3⟩ := Jvm.Cond.arrayClass_spec (hts _ sx_ac_boolean)
  obtain ⟨p3, cJJ, kJJ, oJ1, oJ2, oJ3, oJ4⟩ := sx_over (hts (.arrayOver (.array .long)) (sx_tb (i := 292) rfl))
  obtain ⟨p4, cZZ, kZZ, oZ1, oZ2, oZ3, oZ4⟩ := sx_over (hts (.arrayOver (.array .boolean)) (sx_tb (i := 294) rfl))
  have e3 : p3 = cJ := Option.some.inj (oJ1.symm.trans nJ1)
  have e4 : p4 = cZ := Option.some.inj (oZ1.symm.trans nZ1)
  subst e3
  subst e4
  have mk : ∀ {cA : ClassId} {k : Class} {pp : ClassId} {ty : FieldType}, s.vm.classes[cA]? = some k → k.kind = .array pp ty → ArrOfT s cA ty := fun h1 h2 n z => ⟨fun q h => (by cases h), _, h1, _, h2⟩
  refine ⟨((fun i => match i with | 0 => c0 | 1 => c1 | _ => c2, fun i => match i with | 0 => i0 | 1 => i1 | _ => i2), fun i => match i with | 0 => cI | 1 => p3 | 2 => p4 | 3 => cJJ | _ => cZZ), fun w hw hg => ?_, ⟨fun ci q hq => ?_, fun k q hk => ?_⟩, ⟨⟨kJJ, oJ2, oJ3⟩, ⟨kZZ, oZ2, oZ3⟩, ⟨kJ, pJ, nJ2, nJ3⟩, ⟨kZ, pZ, nZ2, nZ3⟩⟩, hnc⟩
  · have h0 := hts w hw
    rcases hg with hc | ⟨ty, rfl⟩ | ⟨C, T, rfl⟩ | ⟨x, rfl⟩ | ⟨a, i, x, h', rfl⟩
    · simp only [Bool.and_eq_true] at hc
      exact va_any hc.1 h0
    · exact h0
    · exact va_any rfl h0
    · exact va_any rfl h0
    · exact va_any rfl h0
  · match ci, hq with
    | 0, hq => cases hq; exact k0
    | 1, hq => cases hq; exact k1
    | 2, hq => cases hq; exact k2
    | n + 3, hq => cases hq
  · match k, hk with
    | 0, hk => cases hk; exact ⟨mk nI2 nI3, nI1⟩
    | 1, hk => cases hk; exact ⟨mk nJ2 nJ3, nJ1⟩
    | 2, hk => cases hk; exact ⟨mk nZ2 nZ3, nZ1⟩
    | 3, hk => cases hk; exact ⟨mk oJ2 oJ3, oJ4⟩
    | 4, hk => cases hk; exact ⟨mk oZ2 oZ3, oZ4⟩
    | n + 5, hk => cases hk
/-- the law's loop, from its head -/
theorem law_loop {p : Program} {l : Launch} {e : Env} {s : State} {m : MethodId} {below : List Frame} {meth : Method} {c : Code} {G : sx_G} {ad md : Nat → Nat} {oo b LN : Nat} {xs : Nat → Int32} (C0 : sx_C p s m c code 8 sx_LW G) (hfl : l.flags = flags0) (hTS : sx_TS s) (hX : va_X b LN xs s s.heap) (hbl : b < s.heap.size) (hLN : LN ≤ 3072) (hr : meth.sig.returnType = ret) (hlk : meth.locks = false) :
    ∀ (k t : Nat) (ls : Array Slot) (H : Heap) (locs : List Loc), LN < 6 * t + 6 * k → 6 * t ≤ LN → lw_St G ad md oo s t H locs → lv_has ls 8 [(4, .int (nI (6 * t))), (3, .ref oo), (2, .ref (md 0)), (1, .ref (ad 0)), (0, .ref b)] → W p l e room_1 s m #[Value.ref b] below meth c H locs (200 + 3 * t) (20000 + 5000 * t) (lw_Z below #[Value.ref b] s) (F0 m 23 ls []) := by
  have hx := C0.1
  have hb := C0.2.1
  intro k
  induction k with
  | zero => intro t ls H locs h1 h2; omega
  | succ k ih =>
    intro t ls H locs hk ht0 hSt hl
    have hS : va_S (lw_A s) s.heap H locs := by
      obtain ⟨_, _, _, _, _, _, _, _, _, _, _, _, _, _, _, _, _, _, _, _, _, _, _, _, _, _, _, hS⟩ := hSt
      exact hS
    refine lv_iload hx hb d_LW_law_23 (lv_at hl 0 rfl) ?_
    refine lv_aload_n hx hb d_LW_law_25 rfl (lv_at hl 4 rfl) ?_
    refine va_slen C0.1 C0.2.1 hX hbl (A := lw_A s) (Nat.not_le.mpr hbl) hS d_LW_law_26 ?_
    refine lv_bipush (v := nI 6) hx hb d_LW_law_27 (by decide +kernel) ?_
    refine lv_isub hx hb d_LW_law_29 ?_
    have hlt : nI LN - nI 6 < nI (6 * t) ↔ LN < 6 * t + 6 := by
      rw [Int32.lt_iff_toInt_lt, pk_sub_toInt (by omega) (by omega), nI_toInt (by omega)]
      omega
    refine lv_icmp_gt (tgt := 641) hx hb d_LW_law_30 (by decide) (fun h1 => ?_) (fun h1 => ?_)
    · skip
      refine lv_iconst (v := 1) hx hb d_LW_law_641 (by decide) ?_
      refine va_forget (fun q hq => hS.2.2 q hq) ?_
      refine W.widen (k := 601024) (n := 7293034) (by omega) (by omega) ?_
      exact lw_ret C0.1 C0.2.1 hr hlk d_LW_law_642
    · have ht : 6 * t + 6 ≤ LN := Nat.not_lt.mp (fun z => h1 (hlt.mpr z))
      have kk : ∀ (ls : Array Slot) (H : Heap) (locs : List Loc), lw_St G ad md oo s (t + 1) H locs → lv_has ls 8 [(4, .int (nI (6 * t))), (3, .ref oo), (2, .ref (md 0)), (1, .ref (ad 0)), (0, .ref b)] → W p l e room_1 s m #[Value.ref b] below meth c H locs (200 + 3 * (t + 1)) (20000 + 5000 * (t + 1)) (lw_Z below #[Value.ref b] s) (F0 m 635 ls []) := by
        intro ls H locs hSt hl
        refine lv_iinc (k := 0) (v := nI (6 * (t + 1))) hx hb d_LW_law_635 hl rfl (show nI (6 * t) + nI 6 = _ from nI_add _ _) (by decide) rfl (fun ls hl => ?_)
        have hl : lv_has ls 8 [(4, .int (nI (6 * (t + 1)))), (3, .ref oo), (2, .ref (md 0)), (1, .ref (ad 0)), (0, .ref b)] := hl
        refine lv_goto (tgt := 23) hx hb d_LW_law_638 (by decide) ?_
        exact ih (t + 1) ls H locs (by omega) (by omega) hSt hl
      refine lv_aload_n hx hb d_LW_law_33 rfl (lv_at hl 4 rfl) ?_
      refine lv_iload hx hb d_LW_law_34 (lv_at hl 0 rfl) ?_
      refine sx_sld (k := 6 * t) C0 hX hbl (Nat.not_le.mpr hbl) hS (by omega) (by omega) rfl d_LW_law_36 ?_
      refine lv_bipush (v := nI 7) hx hb d_LW_law_37 (by decide +kernel) ?_
      refine lv_iand hx hb d_LW_law_39 ?_
      obtain ⟨j, hj, ej⟩ := pk_andE (xs (6 * t)) (m := nI 7) 3 (by decide +kernel)
      refine sx_topi (y := nI j) ej ?_
      have hj : j < 8 := hj
      match j, hj with
      | 0, _ => exact lv_tableIn (tgt := 88) hx hb d_LW_law_40 (by decide +kernel) (by decide +kernel) (off := 48) (by decide +kernel) (by decide) (law_op0 C0 hfl hTS hX hbl hLN ht hSt hl kk)
      | 1, _ => exact lv_tableIn (tgt := 101) hx hb d_LW_law_40 (by decide +kernel) (by decide +kernel) (off := 61) (by decide +kernel) (by decide) (law_op1 C0 hfl hTS hX hbl hLN ht hSt hl kk)
      | 2, _ => exact lv_tableIn (tgt := 145) hx hb d_LW_law_40 (by decide +kernel) (by decide +kernel) (off := 105) (by decide +kernel) (by decide) (law_op2 C0 hfl hTS hX hbl hLN ht hSt hl kk)
      | 3, _ => exact lv_tableIn (tgt := 217) hx hb d_LW_law_40 (by decide +kernel) (by decide +kernel) (off := 177) (by decide +kernel) (by decide) (law_op3 C0 hfl hTS hX hbl hLN ht hSt hl kk)
      | 4, _ => exact lv_tableIn (tgt := 285) hx hb d_LW_law_40 (by decide +kernel) (by decide +kernel) (off := 245) (by decide +kernel) (by decide) (law_op4 C0 hfl hTS hX hbl hLN ht hSt hl kk)
      | 5, _ => exact lv_tableIn (tgt := 409) hx hb d_LW_law_40 (by decide +kernel) (by decide +kernel) (off := 369) (by decide +kernel) (by decide) (law_op5 C0 hfl hTS hX hbl hLN ht hSt hl kk)
      | 6, _ => exact lv_tableIn (tgt := 504) hx hb d_LW_law_40 (by decide +kernel) (by decide +kernel) (off := 464) (by decide +kernel) (by decide) (law_op6 C0 hfl hTS hX hbl hLN ht hSt hl kk)
      | 7, _ => exact lv_tableIn (tgt := 579) hx hb d_LW_law_40 (by decide +kernel) (by decide +kernel) (off := 539) (by decide +kernel) (by decide) (law_op7 C0 hfl hTS hX hbl hLN ht hSt hl kk)
set_option maxRecDepth 20000 in
theorem whole_start {p : Program} {e : Env} {s : State} {m : MethodId} {below : List Frame} {meth : Method} {c : Code} (l : Launch) (hfl : l.flags = flags0) {b L : Nat} {xs : Nat → Int32} (hL : L ≤ 3072) (C0 : lw_At p s m meth c b L xs) : W p l e room_1 s m #[Value.ref b] below meth c s.heap [] 0 0 (lw_Z below #[Value.ref b] s) (entryFrame m ([Value.ref b] : List Value).toArray 8) := by
  obtain ⟨hx, hb, hr, hml, hown, hts, hX, hbl, hlk, hgv⟩ := C0
  have hfl2 := flat_of_before _ hgv
  have hnc : va_Nc "java/lang/IllegalStateException" "java/lang/IllegalArgumentException" s := va_Nc.of (hfl2 (.not (.castable "java/lang/IllegalStateException" "java/lang/IllegalArgumentException")) (by decide +kernel))
  obtain ⟨G, hCX⟩ := sx_start hts hnc
  have hTS : sx_TS s := ⟨hts sx_s1 (sx_tb (i := 126) rfl), hts sx_s2 (sx_tb (i := 128) rfl), hfl2 sx_s3 (by decide +kernel), hfl2 sx_s4 (by decide +kernel)⟩
  have C0 : sx_C p s m c code 8 sx_LW G := ⟨hx, hb, hml, hown, hCX⟩
  have hA : ∀ q, s.heap.size ≤ q → lw_A s q := fun _ h => h
  have hS : va_S (lw_A s) s.heap s.heap [] := va_S.rf
  have hP : va_P G.1 sx_cls [] s.heap := fun k q h => by cases h
  have hD : va_D (lw_A s) [] := ⟨fun i j x y h => (by cases h), fun k q h => (by cases h)⟩
  have hl := lv_entry ([.ref b]) (n := 8) (Nat.le_of_ble_eq_true rfl)
  rw [lg_entry_eq]
  generalize (lg_sl ([.ref b]) ++ List.replicate (8 - (lg_sl ([.ref b])).length) Slot.unset).toArray = ls at hl ⊢
  have hl : lv_has ls 8 [(0, .ref b)] := hl
  refine sx_new (ci := 0) (fs := [.null, .null, .null, .null, .int 0]) C0 sx_lk_SC sx_is_SC sx_in_SC hP hD hS hA rfl (fun j hj => by
    match j, hj with
    | 0, _ => rfl
    | 1, _ => rfl
    | 2, _ => rfl
    | 3, _ => rfl
    | 4, _ => rfl) ⟨(Nat.le_of_ble_eq_true rfl), (Nat.le_of_ble_eq_true rfl)⟩ d_LW_law_0 (fun q0 H hP hD hS => ?_)
  refine lv_dup hx hb d_LW_law_3 rfl ?_
  refine sx_cI (As := []) (rest := [.ref q0]) (wa := []) (wb := []) C0 (c_SC_init (a := q0)) q_LW_43 i_SC_init rfl ⟨(Nat.le_of_ble_eq_true rfl), (Nat.le_of_ble_eq_true rfl)⟩ rfl hP hD hS hA hl.1 rfl (Nat.le_of_ble_eq_true rfl) d_LW_law_4 ⟨(Nat.le_of_ble_eq_true rfl), (Nat.le_of_ble_eq_true rfl)⟩ (fun r H locs hq hj hS => ?_)
  obtain ⟨q1, q2, q3, q4, q5, q6, q7, q8, qc, qb, rfl, hP1, hD1⟩ := hq
  obtain ⟨hP, hD⟩ := hj _ hP1 hD1
  rw [List.nil_append, List.append_nil] at hP hD
  obtain ⟨ad, e0, hP, hD⟩ : ∃ ad : Nat → Nat, q0 = ad 0 ∧ va_P G.1 sx_cls (wSC G ad qc qb (fun _ => 0) (fun _ => 0) (fun _ => 0) (fun _ => 0) 0 64 (fun _ => 0) (fun _ => 0) 0 0 (fun _ => 0) (fun _ => 0) (fun _ => 0) 0) H ∧ va_D (lw_A s) (wSC G ad qc qb (fun _ => 0) (fun _ => 0) (fun _ => 0) (fun _ => 0) 0 64 (fun _ => 0) (fun _ => 0) 0 0 (fun _ => 0) (fun _ => 0) (fun _ => 0) 0) := by
    refine ⟨_, ?_, hP, hD⟩
    rfl
  rw [e0]
  refine lv_astore_n hx hb d_LW_law_7 rfl hl (by decide) rfl (fun ls hl => ?_)
  have hl : lv_has ls 8 [(1, .ref (ad 0)), (0, .ref b)] := hl
  refine sx_new (ci := 2) (fs := [.int 0, .null, .null, .null, .null, .null, .null, .int 0, .int 0]) C0 sx_lk_MD sx_is_MD sx_in_MD hP hD hS hA rfl (fun j hj => by
    match j, hj with
    | 0, _ => rfl
    | 1, _ => rfl
    | 2, _ => rfl
    | 3, _ => rfl
    | 4, _ => rfl
    | 5, _ => rfl
    | 6, _ => rfl
    | 7, _ => rfl
    | 8, _ => rfl) ⟨(Nat.le_of_ble_eq_true rfl), (Nat.le_of_ble_eq_true rfl)⟩ d_LW_law_8 (fun m0 H hP hD hS => ?_)
  refine lv_dup hx hb d_LW_law_11 rfl ?_
  refine sx_cI (As := []) (rest := [.ref m0]) (wa := (wSC G ad qc qb (fun _ => 0) (fun _ => 0) (fun _ => 0) (fun _ => 0) 0 64 (fun _ => 0) (fun _ => 0) 0 0 (fun _ => 0) (fun _ => 0) (fun _ => 0) 0)) (wc := [(m0, .inr (2, [.int 0, .null, .null, .null, .null, .null, .null, .int 0, .int 0]))]) (wb := []) C0 (c_MD_init (a := m0)) q_LW_46 i_MD_init rfl ⟨(Nat.le_of_ble_eq_true rfl), (Nat.le_of_ble_eq_true rfl)⟩ rfl hP hD hS hA hl.1 rfl (Nat.le_of_ble_eq_true rfl) d_LW_law_12 ⟨(Nat.le_of_ble_eq_true rfl), (Nat.le_of_ble_eq_true rfl)⟩ (fun r H locs hq hj hS => ?_)
  obtain ⟨m1, m2, m3, m4, m5, m6, rfl, hP1, hD1⟩ := hq
  obtain ⟨hP, hD⟩ := hj _ hP1 hD1
  rw [List.append_nil] at hP hD
  obtain ⟨md, e0, hP, hD⟩ : ∃ md : Nat → Nat, m0 = md 0 ∧ va_P G.1 sx_cls ((wSC G ad qc qb (fun _ => 0) (fun _ => 0) (fun _ => 0) (fun _ => 0) 0 64 (fun _ => 0) (fun _ => 0) 0 0 (fun _ => 0) (fun _ => 0) (fun _ => 0) 0) ++ (wMF G md 0 (fun _ => 0) (fun _ => 0) (fun _ => 0) 0 0 (fun _ => 0) (fun _ _ => 0) (fun _ _ => 0))) H ∧ va_D (lw_A s) ((wSC G ad qc qb (fun _ => 0) (fun _ => 0) (fun _ => 0) (fun _ => 0) 0 64 (fun _ => 0) (fun _ => 0) 0 0 (fun _ => 0) (fun _ => 0) (fun _ => 0) 0) ++ (wMF G md 0 (fun _ => 0) (fun _ => 0) (fun _ => 0) 0 0 (fun _ => 0) (fun _ _ => 0) (fun _ _ => 0))) := by
    refine ⟨_, ?_, hP, hD⟩
    rfl
  rw [e0]
  refine lv_astore_n hx hb d_LW_law_15 rfl hl (by decide) rfl (fun ls hl => ?_)
  have hl : lv_has ls 8 [(2, .ref (md 0)), (1, .ref (ad 0)), (0, .ref b)] := hl
  refine lv_iconst (v := nI 1) hx hb d_LW_law_16 (by decide +kernel) ?_
  refine sx_newa (ty := .long) (N' := 1) (a0 := (1, .inr (.inl (fun _ => 0)))) C0 rfl 1 rfl (fun cA => sx_ra_prim (Or.inr (Or.inl rfl)) cA _) sx_ac_long hP hD hS hA (fun _ => rfl) rfl (by decide) (by decide) (Nat.le_of_ble_eq_true rfl) (Nat.le_of_ble_eq_true rfl) d_LW_law_17 (fun oo H hP hD hS => ?_)
  have hpm : (((wSC G ad qc qb (fun _ => 0) (fun _ => 0) (fun _ => 0) (fun _ => 0) 0 64 (fun _ => 0) (fun _ => 0) 0 0 (fun _ => 0) (fun _ => 0) (fun _ => 0) 0) ++ (wMF G md 0 (fun _ => 0) (fun _ => 0) (fun _ => 0) 0 0 (fun _ => 0) (fun _ _ => 0) (fun _ _ => 0))) ++ wO G oo (fun _ => 0)).Perm ((wSC G ad qc qb (fun _ => 0) (fun _ => 0) (fun _ => 0) (fun _ => 0) 0 64 (fun _ => 0) (fun _ => 0) 0 0 (fun _ => 0) (fun _ => 0) (fun _ => 0) 0) ++ (wO G oo (fun _ => 0) ++ (wMF G md 0 (fun _ => 0) (fun _ => 0) (fun _ => 0) 0 0 (fun _ => 0) (fun _ _ => 0) (fun _ _ => 0)))) := by
    rw [List.append_assoc]
    exact List.Perm.append_left _ List.perm_append_comm
  obtain ⟨hP, hD⟩ := sx_perm hpm hP hD
  refine lv_astore_n hx hb d_LW_law_19 rfl hl (by decide) rfl (fun ls hl => ?_)
  have hl : lv_has ls 8 [(3, .ref oo), (2, .ref (md 0)), (1, .ref (ad 0)), (0, .ref b)] := hl
  refine lv_iconst (v := nI (6 * 0)) hx hb d_LW_law_20 (by decide +kernel) ?_
  refine lv_istore hx hb d_LW_law_21 hl (by decide) rfl (fun ls hl => ?_)
  have hl : lv_has ls 8 [(4, .int (nI (6 * 0))), (3, .ref oo), (2, .ref (md 0)), (1, .ref (ad 0)), (0, .ref b)] := hl
  refine W.widen (k := 200 + 3 * 0) (n := 20000 + 5000 * 0) (Nat.le_of_ble_eq_true rfl) (Nat.le_of_ble_eq_true rfl) ?_
  exact law_loop C0 hfl hTS hX hbl hL hr hlk (L + 1) 0 ls H _ (by omega) (by omega) ⟨_, _, _, _, _, _, _, _, _, _, _, _, _, _, _, _, _, _, _, _, _, p_inv_start, (by decide), (by decide), Nat.le_refl _, hP, hD, hS⟩ hl
set_option maxHeartbeats 4000000 in
theorem lw_walk (l : Launch) (hfl : l.flags = flags0) (b : Addr) (xs : List Int32) : MetFree l x (headSpec (Jvm.Cond.code x code maxLocals ret :: tables_1) room_1) (lw_P b xs) (fun _ _ _ _ _ => True) lw_Q := by
  refine MetFree.of_bodyS (code := code) (maxLocals := maxLocals) (ret := ret) (by decide) ?_ ?_
  · intro args s m h hn
    obtain ⟨meth, c, h1, h2, h3, h4, h5, h6, -, -⟩ := Cond.code_spec hn (atoms_spec (ws := Jvm.Cond.code x code maxLocals ret :: tables_1) h _ List.mem_cons_self)
    exact ⟨meth, c, h1, h2, h3, h4, h5, h6⟩
  · intro p e s m args below meth c s₁ B hml0 hP _
    obtain ⟨rfl, hx, hbd, hgv⟩ := hP
    obtain ⟨scr, harrAt, hlist, hof, hsmall⟩ := hx
    obtain ⟨hcb, hkn, -, -⟩ := State.arrayAt?_spec harrAt
    have hown : s.vm.findClass R_law = some m.cls := findClass_of_methodNamed B.named
    have hts0 : ∀ c ∈ (Jvm.Cond.code x code maxLocals ret :: tables_1), c.before #[Value.ref b] s = true := atoms_spec (ws := Jvm.Cond.code x code maxLocals ret :: tables_1) B.pre
    have hts : ∀ w ∈ lw_tbl, w.before #[Value.ref b] s = true := k2_hts_sels lw_privs (fun w hw => hts0 w (List.mem_cons_of_mem _ hw)) lw_privs_ok
    have hml : c.maxLocals = 8 := B.maxLocals_eq (hts0 _ List.mem_cons_self)
    have X₀ : Stand p l e room_1 s m #[Value.ref b] below meth c s₁ [] 0 0 := Stand.of_body B
    have hh0 : s₁.heap = s.heap := by rw [B.state]; rfl
    have hsz : scr.slots.size = xs.length := by rw [← Array.length_toList, hlist, List.length_map]
    have hval : ∀ j : Nat, j < xs.length → scr.slots[j]? = some (.int (xs.getD j 0)) := fun j hj => by
      rw [← Array.getElem?_toList, hlist]
      simp [hj]
    have hbl : b < s.heap.size := (Array.getElem?_eq_some_iff.mp hcb).1
    have hX : va_X b xs.length (fun j => xs.getD j 0) s s.heap := ⟨scr, hcb, hof, hkn, hsz, hval⟩
    have K : W p l e room_1 s m #[Value.ref b] below meth c s₁.heap [] 0 0 (lw_Z below #[Value.ref b] s) (entryFrame m ([Value.ref b] : List Value).toArray 8) := by
      rw [hh0]
      exact whole_start l hfl hbd ⟨B.exec, B.bytes, B.returns, hml, hown, hts, hX, hbl, B.notSynchronized, hgv⟩
    obtain ⟨t, a1, o, b1, b2, b3⟩ := K s₁ rfl X₀
    exact ⟨t, o, a1, b1, b2, b3⟩
theorem lw_pre_spec {args : Array Value} {s : State} (h : (Jvm.Cond.and given_1 narrow_1).before args s = true) (hr : rest_1_c.before args s = true) : ∃ (b : Addr) (xs : List Int32), lw_P b xs args s := by
  have hs := flat_of_before _ h
  have hq := flat_of_before _ hr
  have hc : (Cond.count 1).before args s = true := hs _ (by decide +kernel)
  have harr : (Cond.arrayOf (.arg 0) .int).before args s = true := hs _ (by decide +kernel)
  have hle : (Cond.le (.length (.arg 0)) (.int 3072)).before args s = true := hs _ (by decide +kernel)
  have hlen : (Cond.isInt (.length (.arg 0))).before args s = true := hq _ (by decide +kernel)
  have hall : (Cond.all (.arg 0) (.isInt (.elem (.arg 0) (.index 0)))).before args s = true := hq _ (by decide +kernel)
  obtain ⟨b, xs, hb, hx⟩ := State.ints_of_pre rfl harr hlen hall
  have hsm : xs.length < 2 ^ 31 := hx.choose_spec.2.2.2
  have hev : (Term.length (.arg 0)).eval args s none [] s = some (.int xs.length.toInt32) := hx.length_eval hb
  have hv := Cond.le_ints hev (show (Term.int 3072).eval args s none [] s = some (.int 3072) from rfl)
  have hd : xs.length.toInt32 ≤ 3072 := by
    simpa [Cond.before, Cond.holds, hv] using hle
  have hN : xs.length ≤ 3072 := (Int32.ofNat_le_ofNat hsm (by decide)).mp (show Int32.ofNat xs.length ≤ Int32.ofNat 3072 from hd)
  exact ⟨b, xs, Cond.one_arg hc (show args[0]? = some (.ref b) from hb), hx, hN, h⟩
theorem lw_comes (l : Launch) (hfl : l.flags = flags0) : Comes l x (Jvm.Cond.code x code maxLocals ret :: tables_1) room_1 (fun tb e args s => Calls_1 tb e args s ∧ rest_1 tb e args s ∧ Pre_1 tb e args s)
    (fun _ _ args s o t => lw_Q args s o t) := by
  intro p e ha hc hk s m args below hf hfit hheap happ hpre
  obtain ⟨b, xs, hP⟩ := lw_pre_spec hpre.2.2 hpre.2.1
  obtain ⟨k, o, h1, h2, h3, hQ⟩   := lw_walk l hfl b xs p e ha hc hk s m args below hf ((Spec.applies_iff_loose hf).mp happ).1 hP trivial
  exact ⟨k, o, h1, h2, h3, hQ⟩
theorem lw_frame {s t : State} {o : Outcome} {args : Array Value} (h : Framed s o t [] 601024 7293034) :
    Framed s o t (fieldLocs frame_1_writes args s ++ arrayLocs frame_1_arrays args s ++ staticLocs frame_1_statics s) 601024 7293034 := h
theorem lw_limb (L : Cond) (hL : ∀ (args : Array Value) (s t : State), L.after args s (.returned (some (.int 1))) t = true) :
    ArmFor flags0 classFile x code maxLocals ret World_1 tables_1 room_1 Calls_1 rest_1 Pre_1
      (fun tb e a s o t => postC L tb e a s o t ∧ Framed s o t (fieldLocs frame_1_writes a s ++ arrayLocs frame_1_arrays a s ++ staticLocs frame_1_statics s) 601024 7293034) := by
  intro l hfl _ _ p e ha hc hk s m args below hf hfit hheap happ hpre
  obtain ⟨k, o, h1, h2, h3, rfl, hF⟩ := lw_comes l hfl p e ha hc hk s m args below hf hfit hheap happ hpre
  exact ⟨k, _, h1, h2, h3, hL args s _, lw_frame hF⟩
theorem i_vc : Claimed_1_1 ∧ Claimed_1_2 := ⟨lw_limb limb_1_1 (fun args s t => by simp [limb_1_1, Cond.after, Cond.holds, Cond.value]), lw_limb limb_1_2 (fun args s t => Cond.after_iff.mpr (by
  first | (rw [show limb_1_2 = Cond.eq .result (.int 1) from rfl, Cond.eq_ints (x := 1) (y := 1) rfl rfl]; simp; done) | (simp [limb_1_2, Cond.value, Term.eval]; done)))⟩
end
