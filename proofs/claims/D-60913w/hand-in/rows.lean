section
-- ===== PART A: goes FIRST, ahead of the names: the tables' words, and 'selects' of the private methods out of them =====
/-- a private method of a class that the tables say can be made, by its rows of tables_1 -/
def lw_okq (q : MethodName × Nat) : Prop := (q.1.cls ≠ "java/lang/invoke/MethodHandle" ∧ q.1.cls ≠ "java/lang/invoke/VarHandle") ∧ Cond.instantiable q.1.cls q.2 ∈ tables_1 ∧ Cond.privateMethod q.1 ∈ tables_1 ∧ Cond.instanceMethod q.1 ∈ tables_1
theorem lw_p0 : lw_okq (⟨"JournalDesk", "hasRoom", "(I)Z"⟩, 10) := ⟨⟨by decide +kernel, by decide +kernel⟩, List.mem_of_getElem? (i := 7) (by decide +kernel), List.mem_of_getElem? (i := 91) (by decide +kernel), List.mem_of_getElem? (i := 92) (by decide +kernel)⟩
theorem lw_p1 : lw_okq (⟨"JournalDesk", "used", "()I"⟩, 10) := ⟨⟨by decide +kernel, by decide +kernel⟩, List.mem_of_getElem? (i := 7) (by decide +kernel), List.mem_of_getElem? (i := 95) (by decide +kernel), List.mem_of_getElem? (i := 96) (by decide +kernel)⟩
theorem lw_p2 : lw_okq (⟨"JournalDesk", "append", "(III)Z"⟩, 10) := ⟨⟨by decide +kernel, by decide +kernel⟩, List.mem_of_getElem? (i := 7) (by decide +kernel), List.mem_of_getElem? (i := 104) (by decide +kernel), List.mem_of_getElem? (i := 105) (by decide +kernel)⟩
theorem lw_p3 : lw_okq (⟨"JournalDesk", "sector", "(IIIII)V"⟩, 10) := ⟨⟨by decide +kernel, by decide +kernel⟩, List.mem_of_getElem? (i := 7) (by decide +kernel), List.mem_of_getElem? (i := 111) (by decide +kernel), List.mem_of_getElem? (i := 112) (by decide +kernel)⟩
theorem lw_p4 : lw_okq (⟨"JournalDesk", "many", "()I"⟩, 10) := ⟨⟨by decide +kernel, by decide +kernel⟩, List.mem_of_getElem? (i := 7) (by decide +kernel), List.mem_of_getElem? (i := 127) (by decide +kernel), List.mem_of_getElem? (i := 128) (by decide +kernel)⟩
theorem lw_p5 : lw_okq (⟨"JournalDesk", "whole", "(I)I"⟩, 10) := ⟨⟨by decide +kernel, by decide +kernel⟩, List.mem_of_getElem? (i := 7) (by decide +kernel), List.mem_of_getElem? (i := 143) (by decide +kernel), List.mem_of_getElem? (i := 144) (by decide +kernel)⟩
theorem lw_p6 : lw_okq (⟨"JournalDesk", "needAt", "(I)I"⟩, 10) := ⟨⟨by decide +kernel, by decide +kernel⟩, List.mem_of_getElem? (i := 7) (by decide +kernel), List.mem_of_getElem? (i := 151) (by decide +kernel), List.mem_of_getElem? (i := 152) (by decide +kernel)⟩
theorem lw_p7 : lw_okq (⟨"JournalDesk", "sizeAt", "(I)I"⟩, 10) := ⟨⟨by decide +kernel, by decide +kernel⟩, List.mem_of_getElem? (i := 7) (by decide +kernel), List.mem_of_getElem? (i := 155) (by decide +kernel), List.mem_of_getElem? (i := 156) (by decide +kernel)⟩
theorem lw_p8 : lw_okq (⟨"JournalDesk", "find", "(I)LJournalDesk$Entry;"⟩, 10) := ⟨⟨by decide +kernel, by decide +kernel⟩, List.mem_of_getElem? (i := 7) (by decide +kernel), List.mem_of_getElem? (i := 163) (by decide +kernel), List.mem_of_getElem? (i := 164) (by decide +kernel)⟩
theorem lw_p9 : lw_okq (⟨"JournalDeskModel", "used", "()I"⟩, 11) := ⟨⟨by decide +kernel, by decide +kernel⟩, List.mem_of_getElem? (i := 176) (by decide +kernel), List.mem_of_getElem? (i := 225) (by decide +kernel), List.mem_of_getElem? (i := 226) (by decide +kernel)⟩
theorem lw_p10 : lw_okq (⟨"JournalDeskModel", "isCut", "()Z"⟩, 11) := ⟨⟨by decide +kernel, by decide +kernel⟩, List.mem_of_getElem? (i := 176) (by decide +kernel), List.mem_of_getElem? (i := 232) (by decide +kernel), List.mem_of_getElem? (i := 233) (by decide +kernel)⟩
theorem lw_p11 : lw_okq (⟨"JournalDeskModel", "records", "()I"⟩, 11) := ⟨⟨by decide +kernel, by decide +kernel⟩, List.mem_of_getElem? (i := 176) (by decide +kernel), List.mem_of_getElem? (i := 240) (by decide +kernel), List.mem_of_getElem? (i := 241) (by decide +kernel)⟩
theorem lw_p12 : lw_okq (⟨"JournalDeskModel", "move", "(II)V"⟩, 11) := ⟨⟨by decide +kernel, by decide +kernel⟩, List.mem_of_getElem? (i := 176) (by decide +kernel), List.mem_of_getElem? (i := 244) (by decide +kernel), List.mem_of_getElem? (i := 245) (by decide +kernel)⟩
theorem lw_p13 : lw_okq (⟨"JournalDeskModel", "placeOf", "(I)I"⟩, 11) := ⟨⟨by decide +kernel, by decide +kernel⟩, List.mem_of_getElem? (i := 176) (by decide +kernel), List.mem_of_getElem? (i := 260) (by decide +kernel), List.mem_of_getElem? (i := 261) (by decide +kernel)⟩
def lw_privs_1 : List (MethodName × Nat) := [(⟨"JournalDesk", "hasRoom", "(I)Z"⟩, 10), (⟨"JournalDesk", "used", "()I"⟩, 10), (⟨"JournalDesk", "append", "(III)Z"⟩, 10), (⟨"JournalDesk", "sector", "(IIIII)V"⟩, 10), (⟨"JournalDesk", "many", "()I"⟩, 10), (⟨"JournalDesk", "whole", "(I)I"⟩, 10), (⟨"JournalDesk", "needAt", "(I)I"⟩, 10), (⟨"JournalDesk", "sizeAt", "(I)I"⟩, 10), (⟨"JournalDesk", "find", "(I)LJournalDesk$Entry;"⟩, 10), (⟨"JournalDeskModel", "used", "()I"⟩, 11), (⟨"JournalDeskModel", "isCut", "()Z"⟩, 11), (⟨"JournalDeskModel", "records", "()I"⟩, 11), (⟨"JournalDeskModel", "move", "(II)V"⟩, 11), (⟨"JournalDeskModel", "placeOf", "(I)I"⟩, 11)]
theorem lw_r1 : ∀ q ∈ lw_privs_1, lw_okq q := List.forall_mem_cons.mpr ⟨lw_p0, List.forall_mem_cons.mpr ⟨lw_p1, List.forall_mem_cons.mpr ⟨lw_p2, List.forall_mem_cons.mpr ⟨lw_p3, List.forall_mem_cons.mpr ⟨lw_p4, List.forall_mem_cons.mpr ⟨lw_p5, List.forall_mem_cons.mpr ⟨lw_p6, List.forall_mem_cons.mpr ⟨lw_p7, List.forall_mem_cons.mpr ⟨lw_p8, List.forall_mem_cons.mpr ⟨lw_p9, List.forall_mem_cons.mpr ⟨lw_p10, List.forall_mem_cons.mpr ⟨lw_p11, List.forall_mem_cons.mpr ⟨lw_p12, List.forall_mem_cons.mpr ⟨lw_p13, fun _ h => absurd h List.not_mem_nil⟩⟩⟩⟩⟩⟩⟩⟩⟩⟩⟩⟩⟩⟩
def lw_privs : List (MethodName × Nat) := lw_privs_1
def lw_tbl : List Cond := k2_sels lw_privs ++ tables_1
theorem lw_privs_ok : ∀ q ∈ lw_privs, lw_okq q := lw_r1
-- ===== the words that all methods share: those of the tables that stay
def gw : List Cond := lw_tbl.filter goodWord
theorem gw_tbl {w : Cond} (h : w ∈ gw) : w ∈ lw_tbl := (List.mem_filter.mp h).1
theorem gw_good {w : Cond} (h : w ∈ gw) : w ∈ gw ∧ ((w.onTables && w.keeps) = true ∨ ∃ ty, w = .arrayClass ty) := ⟨h, good_of_word (List.mem_filter.mp h).2⟩
theorem gm {w : Cond} (h : w ∈ tables_1) (hg : goodWord w = true) : w ∈ gw := List.mem_filter.mpr ⟨List.mem_append_right _ h, hg⟩
theorem gsl {w : Cond} (h : w ∈ k2_sels lw_privs) (hg : goodWord w = true) : w ∈ gw := List.mem_filter.mpr ⟨List.mem_append_left _ h, hg⟩
def F_D : u_T := fun k => match k with
  | 0 => ("JournalDesk", "disk", "LJournalDesk$Disk;", true)
  | 1 => ("JournalDesk", "tape", "[B", true)
  | 2 => ("JournalDesk", "size", "I", false)
  | 3 => ("JournalDesk", "cutIn", "I", false)
  | 4 => ("JournalDesk", "power", "Z", false)
  | 5 => ("JournalDesk", "entries", "[LJournalDesk$Entry;", true)
  | 6 => ("JournalDesk", "oldest", "I", false)
  | 7 => ("JournalDesk", "next", "I", false)
  | 8 => ("JournalDesk", "end", "I", false)
  | _ => ("JournalDesk", "records", "I", false)
def t_D : Nat → FieldType := fun k => match k with
  | 0 => .object "JournalDesk$Disk"
  | 1 => .array .byte
  | 2 => .int
  | 3 => .int
  | 4 => .boolean
  | 5 => .array (.object "JournalDesk$Entry")
  | 6 => .int
  | 7 => .int
  | 8 => .int
  | _ => .int
theorem n_D : ∀ a, a < 10 → ∀ b, b < 10 → a ≠ b → (F_D a).2.1 ≠ (F_D b).2.1 := by decide +kernel
theorem t_D_ok : ∀ k, k < 10 → parseFieldDescriptor (F_D k).2.2.1 = some (t_D k) := by decide +kernel
theorem ly_D_0 : u_lay "JournalDesk" F_D 0 ∈ gw := gm (List.mem_of_getElem? (i := 58) (by decide +kernel)) (by decide +kernel)
theorem ly_D_1 : u_lay "JournalDesk" F_D 1 ∈ gw := gm (List.mem_of_getElem? (i := 60) (by decide +kernel)) (by decide +kernel)
theorem ly_D_2 : u_lay "JournalDesk" F_D 2 ∈ gw := gm (List.mem_of_getElem? (i := 62) (by decide +kernel)) (by decide +kernel)
theorem ly_D_3 : u_lay "JournalDesk" F_D 3 ∈ gw := gm (List.mem_of_getElem? (i := 64) (by decide +kernel)) (by decide +kernel)
theorem ly_D_4 : u_lay "JournalDesk" F_D 4 ∈ gw := gm (List.mem_of_getElem? (i := 66) (by decide +kernel)) (by decide +kernel)
theorem ly_D_5 : u_lay "JournalDesk" F_D 5 ∈ gw := gm (List.mem_of_getElem? (i := 68) (by decide +kernel)) (by decide +kernel)
theorem ly_D_6 : u_lay "JournalDesk" F_D 6 ∈ gw := gm (List.mem_of_getElem? (i := 70) (by decide +kernel)) (by decide +kernel)
theorem ly_D_7 : u_lay "JournalDesk" F_D 7 ∈ gw := gm (List.mem_of_getElem? (i := 72) (by decide +kernel)) (by decide +kernel)
theorem ly_D_8 : u_lay "JournalDesk" F_D 8 ∈ gw := gm (List.mem_of_getElem? (i := 74) (by decide +kernel)) (by decide +kernel)
theorem ly_D_9 : u_lay "JournalDesk" F_D 9 ∈ gw := gm (List.mem_of_getElem? (i := 76) (by decide +kernel)) (by decide +kernel)
theorem in_D : ∀ w ∈ u_ws "JournalDesk" F_D 10, w ∈ gw := by
  intro w hw
  obtain ⟨k, hk, rfl⟩ := List.mem_map.mp hw
  have hk := List.mem_range.mp hk
  match k, hk with
  | 0, _ => exact ly_D_0
  | 1, _ => exact ly_D_1
  | 2, _ => exact ly_D_2
  | 3, _ => exact ly_D_3
  | 4, _ => exact ly_D_4
  | 5, _ => exact ly_D_5
  | 6, _ => exact ly_D_6
  | 7, _ => exact ly_D_7
  | 8, _ => exact ly_D_8
  | 9, _ => exact ly_D_9
  | k + 10, h => exact absurd h (by omega)
def F_K : u_T := fun k => match k with
  | 0 => ("JournalDesk$Disk", "bytes", "[B", true)
  | _ => ("JournalDesk$Disk", "right", "[Z", true)
def t_K : Nat → FieldType := fun k => match k with
  | 0 => .array .byte
  | _ => .array .boolean
theorem n_K : ∀ a, a < 2 → ∀ b, b < 2 → a ≠ b → (F_K a).2.1 ≠ (F_K b).2.1 := by decide +kernel
theorem t_K_ok : ∀ k, k < 2 → parseFieldDescriptor (F_K k).2.2.1 = some (t_K k) := by decide +kernel
theorem ly_K_0 : u_lay "JournalDesk$Disk" F_K 0 ∈ gw := gm (List.mem_of_getElem? (i := 23) (by decide +kernel)) (by decide +kernel)
theorem ly_K_1 : u_lay "JournalDesk$Disk" F_K 1 ∈ gw := gm (List.mem_of_getElem? (i := 25) (by decide +kernel)) (by decide +kernel)
theorem in_K : ∀ w ∈ u_ws "JournalDesk$Disk" F_K 2, w ∈ gw := by
  intro w hw
  obtain ⟨k, hk, rfl⟩ := List.mem_map.mp hw
  have hk := List.mem_range.mp hk
  match k, hk with
  | 0, _ => exact ly_K_0
  | 1, _ => exact ly_K_1
  | k + 2, h => exact absurd h (by omega)
def F_E : u_T := fun k => match k with
  | 0 => ("JournalDesk$Entry", "at", "I", false)
  | 1 => ("JournalDesk$Entry", "size", "I", false)
  | _ => ("JournalDesk$Entry", "number", "I", false)
def t_E : Nat → FieldType := fun k => match k with
  | 0 => .int
  | 1 => .int
  | _ => .int
theorem n_E : ∀ a, a < 3 → ∀ b, b < 3 → a ≠ b → (F_E a).2.1 ≠ (F_E b).2.1 := by decide +kernel
theorem t_E_ok : ∀ k, k < 3 → parseFieldDescriptor (F_E k).2.2.1 = some (t_E k) := by decide +kernel
theorem ly_E_0 : u_lay "JournalDesk$Entry" F_E 0 ∈ gw := gm (List.mem_of_getElem? (i := 41) (by decide +kernel)) (by decide +kernel)
theorem ly_E_1 : u_lay "JournalDesk$Entry" F_E 1 ∈ gw := gm (List.mem_of_getElem? (i := 43) (by decide +kernel)) (by decide +kernel)
theorem ly_E_2 : u_lay "JournalDesk$Entry" F_E 2 ∈ gw := gm (List.mem_of_getElem? (i := 45) (by decide +kernel)) (by decide +kernel)
theorem in_E : ∀ w ∈ u_ws "JournalDesk$Entry" F_E 3, w ∈ gw := by
  intro w hw
  obtain ⟨k, hk, rfl⟩ := List.mem_map.mp hw
  have hk := List.mem_range.mp hk
  match k, hk with
  | 0, _ => exact ly_E_0
  | 1, _ => exact ly_E_1
  | 2, _ => exact ly_E_2
  | k + 3, h => exact absurd h (by omega)
def F_M : u_T := fun k => match k with
  | 0 => ("JournalDeskModel", "tape", "[I", true)
  | 1 => ("JournalDeskModel", "taped", "I", false)
  | 2 => ("JournalDeskModel", "kept", "I", false)
  | 3 => ("JournalDeskModel", "isRecord", "[Z", true)
  | 4 => ("JournalDeskModel", "sizes", "[I", true)
  | 5 => ("JournalDeskModel", "numbers", "[I", true)
  | 6 => ("JournalDeskModel", "bytes", "[I", true)
  | 7 => ("JournalDeskModel", "next", "I", false)
  | 8 => ("JournalDeskModel", "whole", "I", false)
  | 9 => ("JournalDeskModel", "off", "Z", false)
  | _ => ("JournalDeskModel", "cutting", "I", false)
def t_M : Nat → FieldType := fun k => match k with
  | 0 => .array .int
  | 1 => .int
  | 2 => .int
  | 3 => .array .boolean
  | 4 => .array .int
  | 5 => .array .int
  | 6 => .array .int
  | 7 => .int
  | 8 => .int
  | 9 => .boolean
  | _ => .int
theorem n_M : ∀ a, a < 11 → ∀ b, b < 11 → a ≠ b → (F_M a).2.1 ≠ (F_M b).2.1 := by decide +kernel
theorem t_M_ok : ∀ k, k < 11 → parseFieldDescriptor (F_M k).2.2.1 = some (t_M k) := by decide +kernel
theorem ly_M_0 : u_lay "JournalDeskModel" F_M 0 ∈ gw := gm (List.mem_of_getElem? (i := 192) (by decide +kernel)) (by decide +kernel)
theorem ly_M_1 : u_lay "JournalDeskModel" F_M 1 ∈ gw := gm (List.mem_of_getElem? (i := 194) (by decide +kernel)) (by decide +kernel)
theorem ly_M_2 : u_lay "JournalDeskModel" F_M 2 ∈ gw := gm (List.mem_of_getElem? (i := 196) (by decide +kernel)) (by decide +kernel)
theorem ly_M_3 : u_lay "JournalDeskModel" F_M 3 ∈ gw := gm (List.mem_of_getElem? (i := 198) (by decide +kernel)) (by decide +kernel)
theorem ly_M_4 : u_lay "JournalDeskModel" F_M 4 ∈ gw := gm (List.mem_of_getElem? (i := 200) (by decide +kernel)) (by decide +kernel)
theorem ly_M_5 : u_lay "JournalDeskModel" F_M 5 ∈ gw := gm (List.mem_of_getElem? (i := 202) (by decide +kernel)) (by decide +kernel)
theorem ly_M_6 : u_lay "JournalDeskModel" F_M 6 ∈ gw := gm (List.mem_of_getElem? (i := 204) (by decide +kernel)) (by decide +kernel)
theorem ly_M_7 : u_lay "JournalDeskModel" F_M 7 ∈ gw := gm (List.mem_of_getElem? (i := 206) (by decide +kernel)) (by decide +kernel)
theorem ly_M_8 : u_lay "JournalDeskModel" F_M 8 ∈ gw := gm (List.mem_of_getElem? (i := 208) (by decide +kernel)) (by decide +kernel)
theorem ly_M_9 : u_lay "JournalDeskModel" F_M 9 ∈ gw := gm (List.mem_of_getElem? (i := 210) (by decide +kernel)) (by decide +kernel)
theorem ly_M_10 : u_lay "JournalDeskModel" F_M 10 ∈ gw := gm (List.mem_of_getElem? (i := 212) (by decide +kernel)) (by decide +kernel)
theorem in_M : ∀ w ∈ u_ws "JournalDeskModel" F_M 11, w ∈ gw := by
  intro w hw
  obtain ⟨k, hk, rfl⟩ := List.mem_map.mp hw
  have hk := List.mem_range.mp hk
  match k, hk with
  | 0, _ => exact ly_M_0
  | 1, _ => exact ly_M_1
  | 2, _ => exact ly_M_2
  | 3, _ => exact ly_M_3
  | 4, _ => exact ly_M_4
  | 5, _ => exact ly_M_5
  | 6, _ => exact ly_M_6
  | 7, _ => exact ly_M_7
  | 8, _ => exact ly_M_8
  | 9, _ => exact ly_M_9
  | 10, _ => exact ly_M_10
  | k + 11, h => exact absurd h (by omega)
abbrev classes : List vw_C := [("JournalDesk", F_D, 10), ("JournalDesk$Disk", F_K, 2), ("JournalDesk$Entry", F_E, 3), ("JournalDeskModel", F_M, 11)]
abbrev b_D_init : ByteArray := prog_1_method_1_code
abbrev y_D_init : MethodName := ⟨"JournalDesk", "<init>", "()V"⟩
theorem cd_D_init : Cond.code y_D_init b_D_init 2 none ∈ gw := gm (List.mem_of_getElem? (i := 10) rfl) rfl
abbrev b_K_init : ByteArray := prog_2_method_1_code
abbrev y_K_init : MethodName := ⟨"JournalDesk$Disk", "<init>", "()V"⟩
theorem cd_K_init : Cond.code y_K_init b_K_init 1 none ∈ gw := gm (List.mem_of_getElem? (i := 18) rfl) rfl
abbrev b_E_init : ByteArray := prog_3_method_1_code
abbrev y_E_init : MethodName := ⟨"JournalDesk$Entry", "<init>", "()V"⟩
theorem cd_E_init : Cond.code y_E_init b_E_init 1 none ∈ gw := gm (List.mem_of_getElem? (i := 35) rfl) rfl
abbrev b_D_put : ByteArray := prog_1_method_2_code
abbrev y_D_put : MethodName := ⟨"JournalDesk", "put", "(JI)Z"⟩
theorem cd_D_put : Cond.code y_D_put b_D_put 5 (some .boolean) ∈ gw := gm (List.mem_of_getElem? (i := 82) rfl) rfl
abbrev b_D_write : ByteArray := prog_1_method_9_code
abbrev y_D_write : MethodName := ⟨"JournalDesk", "write", "()I"⟩
theorem cd_D_write : Cond.code y_D_write b_D_write 3 (some .int) ∈ gw := gm (List.mem_of_getElem? (i := 86) rfl) rfl
abbrev b_D_hasRoom : ByteArray := prog_1_method_8_code
abbrev y_D_hasRoom : MethodName := ⟨"JournalDesk", "hasRoom", "(I)Z"⟩
theorem cd_D_hasRoom : Cond.code y_D_hasRoom b_D_hasRoom 2 (some .boolean) ∈ gw := gm (List.mem_of_getElem? (i := 93) rfl) rfl
abbrev b_D_used : ByteArray := prog_1_method_3_code
abbrev y_D_used : MethodName := ⟨"JournalDesk", "used", "()I"⟩
theorem cd_D_used : Cond.code y_D_used b_D_used 3 (some .int) ∈ gw := gm (List.mem_of_getElem? (i := 97) rfl) rfl
abbrev b_E_need : ByteArray := prog_3_method_2_code
abbrev y_E_need : MethodName := ⟨"JournalDesk$Entry", "need", "()I"⟩
theorem cd_E_need : Cond.code y_E_need b_E_need 1 (some .int) ∈ gw := gm (List.mem_of_getElem? (i := 101) rfl) rfl
abbrev b_D_append : ByteArray := prog_1_method_7_code
abbrev y_D_append : MethodName := ⟨"JournalDesk", "append", "(III)Z"⟩
theorem cd_D_append : Cond.code y_D_append b_D_append 9 (some .boolean) ∈ gw := gm (List.mem_of_getElem? (i := 106) rfl) rfl
abbrev b_D_sector : ByteArray := prog_1_method_6_code
abbrev y_D_sector : MethodName := ⟨"JournalDesk", "sector", "(IIIII)V"⟩
theorem cd_D_sector : Cond.code y_D_sector b_D_sector 7 none ∈ gw := gm (List.mem_of_getElem? (i := 113) rfl) rfl
abbrev b_K_two : ByteArray := prog_2_method_2_code
abbrev y_K_two : MethodName := ⟨"JournalDesk$Disk", "two", "(III)V"⟩
theorem cd_K_two : Cond.code y_K_two b_K_two 4 none ∈ gw := gm (List.mem_of_getElem? (i := 117) rfl) rfl
abbrev b_K_one : ByteArray := prog_2_method_4_code
abbrev y_K_one : MethodName := ⟨"JournalDesk$Disk", "one", "(III)V"⟩
theorem cd_K_one : Cond.code y_K_one b_K_one 4 none ∈ gw := gm (List.mem_of_getElem? (i := 121) rfl) rfl
abbrev b_D_drop : ByteArray := prog_1_method_10_code
abbrev y_D_drop : MethodName := ⟨"JournalDesk", "drop", "(I)I"⟩
theorem cd_D_drop : Cond.code y_D_drop b_D_drop 4 (some .int) ∈ gw := gm (List.mem_of_getElem? (i := 125) rfl) rfl
abbrev b_D_many : ByteArray := prog_1_method_4_code
abbrev y_D_many : MethodName := ⟨"JournalDesk", "many", "()I"⟩
theorem cd_D_many : Cond.code y_D_many b_D_many 3 (some .int) ∈ gw := gm (List.mem_of_getElem? (i := 129) rfl) rfl
abbrev b_D_cut : ByteArray := prog_1_method_11_code
abbrev y_D_cut : MethodName := ⟨"JournalDesk", "cut", "(I)Z"⟩
theorem cd_D_cut : Cond.code y_D_cut b_D_cut 2 (some .boolean) ∈ gw := gm (List.mem_of_getElem? (i := 133) rfl) rfl
abbrev b_D_start : ByteArray := prog_1_method_15_code
abbrev y_D_start : MethodName := ⟨"JournalDesk", "start", "()I"⟩
theorem cd_D_start : Cond.code y_D_start b_D_start 6 (some .int) ∈ gw := gm (List.mem_of_getElem? (i := 137) rfl) rfl
abbrev b_K_readTwo : ByteArray := prog_2_method_3_code
abbrev y_K_readTwo : MethodName := ⟨"JournalDesk$Disk", "readTwo", "(II)I"⟩
theorem cd_K_readTwo : Cond.code y_K_readTwo b_K_readTwo 3 (some .int) ∈ gw := gm (List.mem_of_getElem? (i := 141) rfl) rfl
abbrev b_D_whole : ByteArray := prog_1_method_14_code
abbrev y_D_whole : MethodName := ⟨"JournalDesk", "whole", "(I)I"⟩
theorem cd_D_whole : Cond.code y_D_whole b_D_whole 7 (some .int) ∈ gw := gm (List.mem_of_getElem? (i := 145) rfl) rfl
abbrev b_K_readOne : ByteArray := prog_2_method_5_code
abbrev y_K_readOne : MethodName := ⟨"JournalDesk$Disk", "readOne", "(II)I"⟩
theorem cd_K_readOne : Cond.code y_K_readOne b_K_readOne 3 (some .int) ∈ gw := gm (List.mem_of_getElem? (i := 149) rfl) rfl
abbrev b_D_needAt : ByteArray := prog_1_method_13_code
abbrev y_D_needAt : MethodName := ⟨"JournalDesk", "needAt", "(I)I"⟩
theorem cd_D_needAt : Cond.code y_D_needAt b_D_needAt 2 (some .int) ∈ gw := gm (List.mem_of_getElem? (i := 153) rfl) rfl
abbrev b_D_sizeAt : ByteArray := prog_1_method_12_code
abbrev y_D_sizeAt : MethodName := ⟨"JournalDesk", "sizeAt", "(I)I"⟩
theorem cd_D_sizeAt : Cond.code y_D_sizeAt b_D_sizeAt 2 (some .int) ∈ gw := gm (List.mem_of_getElem? (i := 157) rfl) rfl
abbrev b_D_record : ByteArray := prog_1_method_16_code
abbrev y_D_record : MethodName := ⟨"JournalDesk", "record", "(II)I"⟩
theorem cd_D_record : Cond.code y_D_record b_D_record 4 (some .int) ∈ gw := gm (List.mem_of_getElem? (i := 161) rfl) rfl
abbrev b_D_find : ByteArray := prog_1_method_5_code
abbrev y_D_find : MethodName := ⟨"JournalDesk", "find", "(I)LJournalDesk$Entry;"⟩
theorem cd_D_find : Cond.code y_D_find b_D_find 4 (some (.object "JournalDesk$Entry")) ∈ gw := gm (List.mem_of_getElem? (i := 165) rfl) rfl
abbrev b_D_bytes : ByteArray := prog_1_method_17_code
abbrev y_D_bytes : MethodName := ⟨"JournalDesk", "bytes", "(II)J"⟩
theorem cd_D_bytes : Cond.code y_D_bytes b_D_bytes 9 (some .long) ∈ gw := gm (List.mem_of_getElem? (i := 169) rfl) rfl
abbrev b_D_count : ByteArray := prog_1_method_18_code
abbrev y_D_count : MethodName := ⟨"JournalDesk", "count", "(I)I"⟩
theorem cd_D_count : Cond.code y_D_count b_D_count 2 (some .int) ∈ gw := gm (List.mem_of_getElem? (i := 174) rfl) rfl
abbrev b_M_init : ByteArray := prog_5_method_1_code
abbrev y_M_init : MethodName := ⟨"JournalDeskModel", "<init>", "()V"⟩
theorem cd_M_init : Cond.code y_M_init b_M_init 1 none ∈ gw := gm (List.mem_of_getElem? (i := 179) rfl) rfl
abbrev b_M_put : ByteArray := prog_5_method_2_code
abbrev y_M_put : MethodName := ⟨"JournalDeskModel", "put", "(JI)Z"⟩
theorem cd_M_put : Cond.code y_M_put b_M_put 5 (some .boolean) ∈ gw := gm (List.mem_of_getElem? (i := 219) rfl) rfl
abbrev b_M_write : ByteArray := prog_5_method_7_code
abbrev y_M_write : MethodName := ⟨"JournalDeskModel", "write", "()I"⟩
theorem cd_M_write : Cond.code y_M_write b_M_write 3 (some .int) ∈ gw := gm (List.mem_of_getElem? (i := 223) rfl) rfl
abbrev b_M_used : ByteArray := prog_5_method_4_code
abbrev y_M_used : MethodName := ⟨"JournalDeskModel", "used", "()I"⟩
theorem cd_M_used : Cond.code y_M_used b_M_used 3 (some .int) ∈ gw := gm (List.mem_of_getElem? (i := 227) rfl) rfl
abbrev b_M_sectorsOf : ByteArray := prog_5_method_3_code
abbrev y_M_sectorsOf : MethodName := ⟨"JournalDeskModel", "sectorsOf", "(I)I"⟩
theorem cd_M_sectorsOf : Cond.code y_M_sectorsOf b_M_sectorsOf 1 (some .int) ∈ gw := gm (List.mem_of_getElem? (i := 230) rfl) rfl
abbrev b_M_isCut : ByteArray := prog_5_method_6_code
abbrev y_M_isCut : MethodName := ⟨"JournalDeskModel", "isCut", "()Z"⟩
theorem cd_M_isCut : Cond.code y_M_isCut b_M_isCut 1 (some .boolean) ∈ gw := gm (List.mem_of_getElem? (i := 234) rfl) rfl
abbrev b_M_drop : ByteArray := prog_5_method_9_code
abbrev y_M_drop : MethodName := ⟨"JournalDeskModel", "drop", "(I)I"⟩
theorem cd_M_drop : Cond.code y_M_drop b_M_drop 7 (some .int) ∈ gw := gm (List.mem_of_getElem? (i := 238) rfl) rfl
abbrev b_M_records : ByteArray := prog_5_method_5_code
abbrev y_M_records : MethodName := ⟨"JournalDeskModel", "records", "()I"⟩
theorem cd_M_records : Cond.code y_M_records b_M_records 3 (some .int) ∈ gw := gm (List.mem_of_getElem? (i := 242) rfl) rfl
abbrev b_M_move : ByteArray := prog_5_method_8_code
abbrev y_M_move : MethodName := ⟨"JournalDeskModel", "move", "(II)V"⟩
theorem cd_M_move : Cond.code y_M_move b_M_move 4 none ∈ gw := gm (List.mem_of_getElem? (i := 246) rfl) rfl
abbrev b_M_cut : ByteArray := prog_5_method_10_code
abbrev y_M_cut : MethodName := ⟨"JournalDeskModel", "cut", "(I)Z"⟩
theorem cd_M_cut : Cond.code y_M_cut b_M_cut 2 (some .boolean) ∈ gw := gm (List.mem_of_getElem? (i := 250) rfl) rfl
abbrev b_M_start : ByteArray := prog_5_method_11_code
abbrev y_M_start : MethodName := ⟨"JournalDeskModel", "start", "()I"⟩
theorem cd_M_start : Cond.code y_M_start b_M_start 1 (some .int) ∈ gw := gm (List.mem_of_getElem? (i := 254) rfl) rfl
abbrev b_M_record : ByteArray := prog_5_method_13_code
abbrev y_M_record : MethodName := ⟨"JournalDeskModel", "record", "(II)I"⟩
theorem cd_M_record : Cond.code y_M_record b_M_record 4 (some .int) ∈ gw := gm (List.mem_of_getElem? (i := 258) rfl) rfl
abbrev b_M_placeOf : ByteArray := prog_5_method_12_code
abbrev y_M_placeOf : MethodName := ⟨"JournalDeskModel", "placeOf", "(I)I"⟩
theorem cd_M_placeOf : Cond.code y_M_placeOf b_M_placeOf 4 (some .int) ∈ gw := gm (List.mem_of_getElem? (i := 262) rfl) rfl
abbrev b_M_bytes : ByteArray := prog_5_method_14_code
abbrev y_M_bytes : MethodName := ⟨"JournalDeskModel", "bytes", "(II)J"⟩
theorem cd_M_bytes : Cond.code y_M_bytes b_M_bytes 7 (some .long) ∈ gw := gm (List.mem_of_getElem? (i := 266) rfl) rfl
abbrev b_M_count : ByteArray := prog_5_method_15_code
abbrev y_M_count : MethodName := ⟨"JournalDeskModel", "count", "(I)I"⟩
theorem cd_M_count : Cond.code y_M_count b_M_count 2 (some .int) ∈ gw := gm (List.mem_of_getElem? (i := 271) rfl) rfl
theorem fl_K_9 : Cond.fieldLink "JournalDesk$Disk" 9 "JournalDesk$Disk" "bytes" "[B" ∈ gw := gm (List.mem_of_getElem? (i := 20) (by decide +kernel)) rfl
theorem fl_K_15 : Cond.fieldLink "JournalDesk$Disk" 15 "JournalDesk$Disk" "right" "[Z" ∈ gw := gm (List.mem_of_getElem? (i := 21) (by decide +kernel)) rfl
theorem fl_E_9 : Cond.fieldLink "JournalDesk$Entry" 9 "JournalDesk$Entry" "size" "I" ∈ gw := gm (List.mem_of_getElem? (i := 38) (by decide +kernel)) rfl
theorem fl_D_10 : Cond.fieldLink "JournalDesk" 10 "JournalDesk" "disk" "LJournalDesk$Disk;" ∈ gw := gm (List.mem_of_getElem? (i := 48) (by decide +kernel)) rfl
theorem fl_D_16 : Cond.fieldLink "JournalDesk" 16 "JournalDesk" "tape" "[B" ∈ gw := gm (List.mem_of_getElem? (i := 49) (by decide +kernel)) rfl
theorem fl_D_35 : Cond.fieldLink "JournalDesk" 35 "JournalDesk" "size" "I" ∈ gw := gm (List.mem_of_getElem? (i := 50) (by decide +kernel)) rfl
theorem fl_D_20 : Cond.fieldLink "JournalDesk" 20 "JournalDesk" "cutIn" "I" ∈ gw := gm (List.mem_of_getElem? (i := 51) (by decide +kernel)) rfl
theorem fl_D_24 : Cond.fieldLink "JournalDesk" 24 "JournalDesk" "power" "Z" ∈ gw := gm (List.mem_of_getElem? (i := 52) (by decide +kernel)) rfl
theorem fl_D_30 : Cond.fieldLink "JournalDesk" 30 "JournalDesk" "entries" "[LJournalDesk$Entry;" ∈ gw := gm (List.mem_of_getElem? (i := 53) (by decide +kernel)) rfl
theorem fl_D_38 : Cond.fieldLink "JournalDesk" 38 "JournalDesk" "oldest" "I" ∈ gw := gm (List.mem_of_getElem? (i := 54) (by decide +kernel)) rfl
theorem fl_D_41 : Cond.fieldLink "JournalDesk" 41 "JournalDesk" "next" "I" ∈ gw := gm (List.mem_of_getElem? (i := 55) (by decide +kernel)) rfl
theorem fl_D_65 : Cond.fieldLink "JournalDesk" 65 "JournalDesk" "end" "I" ∈ gw := gm (List.mem_of_getElem? (i := 56) (by decide +kernel)) rfl
theorem fl_D_58 : Cond.fieldLink "JournalDesk" 58 "JournalDesk" "records" "I" ∈ gw := gm (List.mem_of_getElem? (i := 57) (by decide +kernel)) rfl
theorem fl_M_7 : Cond.fieldLink "JournalDeskModel" 7 "JournalDeskModel" "tape" "[I" ∈ gw := gm (List.mem_of_getElem? (i := 181) (by decide +kernel)) rfl
theorem fl_M_30 : Cond.fieldLink "JournalDeskModel" 30 "JournalDeskModel" "taped" "I" ∈ gw := gm (List.mem_of_getElem? (i := 182) (by decide +kernel)) rfl
theorem fl_M_33 : Cond.fieldLink "JournalDeskModel" 33 "JournalDeskModel" "kept" "I" ∈ gw := gm (List.mem_of_getElem? (i := 183) (by decide +kernel)) rfl
theorem fl_M_13 : Cond.fieldLink "JournalDeskModel" 13 "JournalDeskModel" "isRecord" "[Z" ∈ gw := gm (List.mem_of_getElem? (i := 184) (by decide +kernel)) rfl
theorem fl_M_17 : Cond.fieldLink "JournalDeskModel" 17 "JournalDeskModel" "sizes" "[I" ∈ gw := gm (List.mem_of_getElem? (i := 185) (by decide +kernel)) rfl
theorem fl_M_20 : Cond.fieldLink "JournalDeskModel" 20 "JournalDeskModel" "numbers" "[I" ∈ gw := gm (List.mem_of_getElem? (i := 186) (by decide +kernel)) rfl
theorem fl_M_23 : Cond.fieldLink "JournalDeskModel" 23 "JournalDeskModel" "bytes" "[I" ∈ gw := gm (List.mem_of_getElem? (i := 187) (by decide +kernel)) rfl
theorem fl_M_52 : Cond.fieldLink "JournalDeskModel" 52 "JournalDeskModel" "next" "I" ∈ gw := gm (List.mem_of_getElem? (i := 188) (by decide +kernel)) rfl
theorem fl_M_55 : Cond.fieldLink "JournalDeskModel" 55 "JournalDeskModel" "whole" "I" ∈ gw := gm (List.mem_of_getElem? (i := 189) (by decide +kernel)) rfl
theorem fl_M_40 : Cond.fieldLink "JournalDeskModel" 40 "JournalDeskModel" "off" "Z" ∈ gw := gm (List.mem_of_getElem? (i := 190) (by decide +kernel)) rfl
theorem fl_M_26 : Cond.fieldLink "JournalDeskModel" 26 "JournalDeskModel" "cutting" "I" ∈ gw := gm (List.mem_of_getElem? (i := 191) (by decide +kernel)) rfl
theorem it_L : Cond.initialized "JournalDeskLaw" ∈ gw := gm (List.mem_of_getElem? (i := 0) (by decide +kernel)) rfl
theorem it_D : Cond.initialized "JournalDesk" ∈ gw := gm (List.mem_of_getElem? (i := 1) (by decide +kernel)) rfl
theorem it_K : Cond.initialized "JournalDesk$Disk" ∈ gw := gm (List.mem_of_getElem? (i := 2) (by decide +kernel)) rfl
theorem it_E : Cond.initialized "JournalDesk$Entry" ∈ gw := gm (List.mem_of_getElem? (i := 3) (by decide +kernel)) rfl
theorem it_M : Cond.initialized "JournalDeskModel" ∈ gw := gm (List.mem_of_getElem? (i := 4) (by decide +kernel)) rfl
theorem it_Math : Cond.initialized "java/lang/Math" ∈ gw := gm (List.mem_of_getElem? (i := 5) (by decide +kernel)) rfl
theorem kl_L_7 : Cond.classLink "JournalDeskLaw" 7 "JournalDesk" ∈ gw := gm (List.mem_of_getElem? (i := 6) (by decide +kernel)) rfl
theorem is_D : Cond.instantiable "JournalDesk" 10 ∈ gw := gm (List.mem_of_getElem? (i := 7) (by decide +kernel)) rfl
theorem ml_L_9 : Cond.methodLink "JournalDeskLaw" 9 y_D_init ∈ gw := gm (List.mem_of_getElem? (i := 8) (by decide +kernel)) rfl
theorem im_D_init : Cond.instanceMethod y_D_init ∈ gw := gm (List.mem_of_getElem? (i := 9) (by decide +kernel)) rfl
theorem kl_D_7 : Cond.classLink "JournalDesk" 7 "JournalDesk$Disk" ∈ gw := gm (List.mem_of_getElem? (i := 14) (by decide +kernel)) rfl
theorem is_K : Cond.instantiable "JournalDesk$Disk" 2 ∈ gw := gm (List.mem_of_getElem? (i := 15) (by decide +kernel)) rfl
theorem im_K_init : Cond.instanceMethod y_K_init ∈ gw := gm (List.mem_of_getElem? (i := 17) (by decide +kernel)) rfl
theorem ac_byte : Cond.arrayClass .byte ∈ gw := gm (List.mem_of_getElem? (i := 28) (by decide +kernel)) rfl
theorem ac_boolean : Cond.arrayClass .boolean ∈ gw := gm (List.mem_of_getElem? (i := 29) (by decide +kernel)) rfl
theorem kl_D_28 : Cond.classLink "JournalDesk" 28 "JournalDesk$Entry" ∈ gw := gm (List.mem_of_getElem? (i := 30) (by decide +kernel)) rfl
theorem is_E : Cond.instantiable "JournalDesk$Entry" 3 ∈ gw := gm (List.mem_of_getElem? (i := 32) (by decide +kernel)) rfl
theorem im_E_init : Cond.instanceMethod y_E_init ∈ gw := gm (List.mem_of_getElem? (i := 34) (by decide +kernel)) rfl
theorem ml_L_15 : Cond.methodLink "JournalDeskLaw" 15 y_D_put ∈ gw := gm (List.mem_of_getElem? (i := 79) (by decide +kernel)) rfl
theorem im_D_put : Cond.instanceMethod y_D_put ∈ gw := gm (List.mem_of_getElem? (i := 80) (by decide +kernel)) rfl
theorem sl_D_put : Cond.selects "JournalDesk" y_D_put y_D_put ∈ gw := gm (List.mem_of_getElem? (i := 81) (by decide +kernel)) rfl
theorem ml_L_20 : Cond.methodLink "JournalDeskLaw" 20 y_D_write ∈ gw := gm (List.mem_of_getElem? (i := 83) (by decide +kernel)) rfl
theorem im_D_write : Cond.instanceMethod y_D_write ∈ gw := gm (List.mem_of_getElem? (i := 84) (by decide +kernel)) rfl
theorem sl_D_write : Cond.selects "JournalDesk" y_D_write y_D_write ∈ gw := gm (List.mem_of_getElem? (i := 85) (by decide +kernel)) rfl
theorem ml_D_88 : Cond.methodLink "JournalDesk" 88 y_D_hasRoom ∈ gw := gm (List.mem_of_getElem? (i := 90) (by decide +kernel)) rfl
theorem im_D_hasRoom : Cond.instanceMethod y_D_hasRoom ∈ gw := gm (List.mem_of_getElem? (i := 92) (by decide +kernel)) rfl
theorem ml_D_82 : Cond.methodLink "JournalDesk" 82 y_D_used ∈ gw := gm (List.mem_of_getElem? (i := 94) (by decide +kernel)) rfl
theorem im_D_used : Cond.instanceMethod y_D_used ∈ gw := gm (List.mem_of_getElem? (i := 96) (by decide +kernel)) rfl
theorem ml_D_44 : Cond.methodLink "JournalDesk" 44 y_E_need ∈ gw := gm (List.mem_of_getElem? (i := 98) (by decide +kernel)) rfl
theorem im_E_need : Cond.instanceMethod y_E_need ∈ gw := gm (List.mem_of_getElem? (i := 99) (by decide +kernel)) rfl
theorem sl_E_need : Cond.selects "JournalDesk$Entry" y_E_need y_E_need ∈ gw := gm (List.mem_of_getElem? (i := 100) (by decide +kernel)) rfl
theorem ml_D_92 : Cond.methodLink "JournalDesk" 92 y_D_append ∈ gw := gm (List.mem_of_getElem? (i := 103) (by decide +kernel)) rfl
theorem im_D_append : Cond.instanceMethod y_D_append ∈ gw := gm (List.mem_of_getElem? (i := 105) (by decide +kernel)) rfl
theorem ml_D_78 : Cond.methodLink "JournalDesk" 78 y_D_sector ∈ gw := gm (List.mem_of_getElem? (i := 110) (by decide +kernel)) rfl
theorem im_D_sector : Cond.instanceMethod y_D_sector ∈ gw := gm (List.mem_of_getElem? (i := 112) (by decide +kernel)) rfl
theorem ml_D_51 : Cond.methodLink "JournalDesk" 51 y_K_two ∈ gw := gm (List.mem_of_getElem? (i := 114) (by decide +kernel)) rfl
theorem im_K_two : Cond.instanceMethod y_K_two ∈ gw := gm (List.mem_of_getElem? (i := 115) (by decide +kernel)) rfl
theorem sl_K_two : Cond.selects "JournalDesk$Disk" y_K_two y_K_two ∈ gw := gm (List.mem_of_getElem? (i := 116) (by decide +kernel)) rfl
theorem ml_D_55 : Cond.methodLink "JournalDesk" 55 y_K_one ∈ gw := gm (List.mem_of_getElem? (i := 118) (by decide +kernel)) rfl
theorem im_K_one : Cond.instanceMethod y_K_one ∈ gw := gm (List.mem_of_getElem? (i := 119) (by decide +kernel)) rfl
theorem sl_K_one : Cond.selects "JournalDesk$Disk" y_K_one y_K_one ∈ gw := gm (List.mem_of_getElem? (i := 120) (by decide +kernel)) rfl
theorem ml_L_25 : Cond.methodLink "JournalDeskLaw" 25 y_D_drop ∈ gw := gm (List.mem_of_getElem? (i := 122) (by decide +kernel)) rfl
theorem im_D_drop : Cond.instanceMethod y_D_drop ∈ gw := gm (List.mem_of_getElem? (i := 123) (by decide +kernel)) rfl
theorem sl_D_drop : Cond.selects "JournalDesk" y_D_drop y_D_drop ∈ gw := gm (List.mem_of_getElem? (i := 124) (by decide +kernel)) rfl
theorem ml_D_96 : Cond.methodLink "JournalDesk" 96 y_D_many ∈ gw := gm (List.mem_of_getElem? (i := 126) (by decide +kernel)) rfl
theorem im_D_many : Cond.instanceMethod y_D_many ∈ gw := gm (List.mem_of_getElem? (i := 128) (by decide +kernel)) rfl
theorem ml_L_30 : Cond.methodLink "JournalDeskLaw" 30 y_D_cut ∈ gw := gm (List.mem_of_getElem? (i := 130) (by decide +kernel)) rfl
theorem im_D_cut : Cond.instanceMethod y_D_cut ∈ gw := gm (List.mem_of_getElem? (i := 131) (by decide +kernel)) rfl
theorem sl_D_cut : Cond.selects "JournalDesk" y_D_cut y_D_cut ∈ gw := gm (List.mem_of_getElem? (i := 132) (by decide +kernel)) rfl
theorem ml_L_35 : Cond.methodLink "JournalDeskLaw" 35 y_D_start ∈ gw := gm (List.mem_of_getElem? (i := 134) (by decide +kernel)) rfl
theorem im_D_start : Cond.instanceMethod y_D_start ∈ gw := gm (List.mem_of_getElem? (i := 135) (by decide +kernel)) rfl
theorem sl_D_start : Cond.selects "JournalDesk" y_D_start y_D_start ∈ gw := gm (List.mem_of_getElem? (i := 136) (by decide +kernel)) rfl
theorem ml_D_106 : Cond.methodLink "JournalDesk" 106 y_K_readTwo ∈ gw := gm (List.mem_of_getElem? (i := 138) (by decide +kernel)) rfl
theorem im_K_readTwo : Cond.instanceMethod y_K_readTwo ∈ gw := gm (List.mem_of_getElem? (i := 139) (by decide +kernel)) rfl
theorem sl_K_readTwo : Cond.selects "JournalDesk$Disk" y_K_readTwo y_K_readTwo ∈ gw := gm (List.mem_of_getElem? (i := 140) (by decide +kernel)) rfl
theorem ml_D_112 : Cond.methodLink "JournalDesk" 112 y_D_whole ∈ gw := gm (List.mem_of_getElem? (i := 142) (by decide +kernel)) rfl
theorem im_D_whole : Cond.instanceMethod y_D_whole ∈ gw := gm (List.mem_of_getElem? (i := 144) (by decide +kernel)) rfl
theorem ml_D_99 : Cond.methodLink "JournalDesk" 99 y_K_readOne ∈ gw := gm (List.mem_of_getElem? (i := 146) (by decide +kernel)) rfl
theorem im_K_readOne : Cond.instanceMethod y_K_readOne ∈ gw := gm (List.mem_of_getElem? (i := 147) (by decide +kernel)) rfl
theorem sl_K_readOne : Cond.selects "JournalDesk$Disk" y_K_readOne y_K_readOne ∈ gw := gm (List.mem_of_getElem? (i := 148) (by decide +kernel)) rfl
theorem ml_D_109 : Cond.methodLink "JournalDesk" 109 y_D_needAt ∈ gw := gm (List.mem_of_getElem? (i := 150) (by decide +kernel)) rfl
theorem im_D_needAt : Cond.instanceMethod y_D_needAt ∈ gw := gm (List.mem_of_getElem? (i := 152) (by decide +kernel)) rfl
theorem ml_D_102 : Cond.methodLink "JournalDesk" 102 y_D_sizeAt ∈ gw := gm (List.mem_of_getElem? (i := 154) (by decide +kernel)) rfl
theorem im_D_sizeAt : Cond.instanceMethod y_D_sizeAt ∈ gw := gm (List.mem_of_getElem? (i := 156) (by decide +kernel)) rfl
theorem ml_L_39 : Cond.methodLink "JournalDeskLaw" 39 y_D_record ∈ gw := gm (List.mem_of_getElem? (i := 158) (by decide +kernel)) rfl
theorem im_D_record : Cond.instanceMethod y_D_record ∈ gw := gm (List.mem_of_getElem? (i := 159) (by decide +kernel)) rfl
theorem sl_D_record : Cond.selects "JournalDesk" y_D_record y_D_record ∈ gw := gm (List.mem_of_getElem? (i := 160) (by decide +kernel)) rfl
theorem ml_D_115 : Cond.methodLink "JournalDesk" 115 y_D_find ∈ gw := gm (List.mem_of_getElem? (i := 162) (by decide +kernel)) rfl
theorem im_D_find : Cond.instanceMethod y_D_find ∈ gw := gm (List.mem_of_getElem? (i := 164) (by decide +kernel)) rfl
theorem ml_L_44 : Cond.methodLink "JournalDeskLaw" 44 y_D_bytes ∈ gw := gm (List.mem_of_getElem? (i := 166) (by decide +kernel)) rfl
theorem im_D_bytes : Cond.instanceMethod y_D_bytes ∈ gw := gm (List.mem_of_getElem? (i := 167) (by decide +kernel)) rfl
theorem sl_D_bytes : Cond.selects "JournalDesk" y_D_bytes y_D_bytes ∈ gw := gm (List.mem_of_getElem? (i := 168) (by decide +kernel)) rfl
theorem cl_D_119 : Cond.constantLong "JournalDesk" 119 (-1) ∈ gw := gm (List.mem_of_getElem? (i := 170) (by decide +kernel)) rfl
theorem ml_L_49 : Cond.methodLink "JournalDeskLaw" 49 y_D_count ∈ gw := gm (List.mem_of_getElem? (i := 171) (by decide +kernel)) rfl
theorem im_D_count : Cond.instanceMethod y_D_count ∈ gw := gm (List.mem_of_getElem? (i := 172) (by decide +kernel)) rfl
theorem sl_D_count : Cond.selects "JournalDesk" y_D_count y_D_count ∈ gw := gm (List.mem_of_getElem? (i := 173) (by decide +kernel)) rfl
theorem kl_L_10 : Cond.classLink "JournalDeskLaw" 10 "JournalDeskModel" ∈ gw := gm (List.mem_of_getElem? (i := 175) (by decide +kernel)) rfl
theorem is_M : Cond.instantiable "JournalDeskModel" 11 ∈ gw := gm (List.mem_of_getElem? (i := 176) (by decide +kernel)) rfl
theorem ml_L_12 : Cond.methodLink "JournalDeskLaw" 12 y_M_init ∈ gw := gm (List.mem_of_getElem? (i := 177) (by decide +kernel)) rfl
theorem im_M_init : Cond.instanceMethod y_M_init ∈ gw := gm (List.mem_of_getElem? (i := 178) (by decide +kernel)) rfl
theorem ac_int : Cond.arrayClass .int ∈ gw := gm (List.mem_of_getElem? (i := 215) (by decide +kernel)) rfl
theorem ml_L_19 : Cond.methodLink "JournalDeskLaw" 19 y_M_put ∈ gw := gm (List.mem_of_getElem? (i := 216) (by decide +kernel)) rfl
theorem im_M_put : Cond.instanceMethod y_M_put ∈ gw := gm (List.mem_of_getElem? (i := 217) (by decide +kernel)) rfl
theorem sl_M_put : Cond.selects "JournalDeskModel" y_M_put y_M_put ∈ gw := gm (List.mem_of_getElem? (i := 218) (by decide +kernel)) rfl
theorem ml_L_24 : Cond.methodLink "JournalDeskLaw" 24 y_M_write ∈ gw := gm (List.mem_of_getElem? (i := 220) (by decide +kernel)) rfl
theorem im_M_write : Cond.instanceMethod y_M_write ∈ gw := gm (List.mem_of_getElem? (i := 221) (by decide +kernel)) rfl
theorem sl_M_write : Cond.selects "JournalDeskModel" y_M_write y_M_write ∈ gw := gm (List.mem_of_getElem? (i := 222) (by decide +kernel)) rfl
theorem ml_M_44 : Cond.methodLink "JournalDeskModel" 44 y_M_used ∈ gw := gm (List.mem_of_getElem? (i := 224) (by decide +kernel)) rfl
theorem im_M_used : Cond.instanceMethod y_M_used ∈ gw := gm (List.mem_of_getElem? (i := 226) (by decide +kernel)) rfl
theorem ml_M_36 : Cond.methodLink "JournalDeskModel" 36 y_M_sectorsOf ∈ gw := gm (List.mem_of_getElem? (i := 228) (by decide +kernel)) rfl
theorem st_M_sectorsOf : Cond.static y_M_sectorsOf ∈ gw := gm (List.mem_of_getElem? (i := 229) (by decide +kernel)) rfl
theorem ml_M_48 : Cond.methodLink "JournalDeskModel" 48 y_M_isCut ∈ gw := gm (List.mem_of_getElem? (i := 231) (by decide +kernel)) rfl
theorem im_M_isCut : Cond.instanceMethod y_M_isCut ∈ gw := gm (List.mem_of_getElem? (i := 233) (by decide +kernel)) rfl
theorem ml_L_29 : Cond.methodLink "JournalDeskLaw" 29 y_M_drop ∈ gw := gm (List.mem_of_getElem? (i := 235) (by decide +kernel)) rfl
theorem im_M_drop : Cond.instanceMethod y_M_drop ∈ gw := gm (List.mem_of_getElem? (i := 236) (by decide +kernel)) rfl
theorem sl_M_drop : Cond.selects "JournalDeskModel" y_M_drop y_M_drop ∈ gw := gm (List.mem_of_getElem? (i := 237) (by decide +kernel)) rfl
theorem ml_M_58 : Cond.methodLink "JournalDeskModel" 58 y_M_records ∈ gw := gm (List.mem_of_getElem? (i := 239) (by decide +kernel)) rfl
theorem im_M_records : Cond.instanceMethod y_M_records ∈ gw := gm (List.mem_of_getElem? (i := 241) (by decide +kernel)) rfl
theorem ml_M_61 : Cond.methodLink "JournalDeskModel" 61 y_M_move ∈ gw := gm (List.mem_of_getElem? (i := 243) (by decide +kernel)) rfl
theorem im_M_move : Cond.instanceMethod y_M_move ∈ gw := gm (List.mem_of_getElem? (i := 245) (by decide +kernel)) rfl
theorem ml_L_34 : Cond.methodLink "JournalDeskLaw" 34 y_M_cut ∈ gw := gm (List.mem_of_getElem? (i := 247) (by decide +kernel)) rfl
theorem im_M_cut : Cond.instanceMethod y_M_cut ∈ gw := gm (List.mem_of_getElem? (i := 248) (by decide +kernel)) rfl
theorem sl_M_cut : Cond.selects "JournalDeskModel" y_M_cut y_M_cut ∈ gw := gm (List.mem_of_getElem? (i := 249) (by decide +kernel)) rfl
theorem ml_L_38 : Cond.methodLink "JournalDeskLaw" 38 y_M_start ∈ gw := gm (List.mem_of_getElem? (i := 251) (by decide +kernel)) rfl
theorem im_M_start : Cond.instanceMethod y_M_start ∈ gw := gm (List.mem_of_getElem? (i := 252) (by decide +kernel)) rfl
theorem sl_M_start : Cond.selects "JournalDeskModel" y_M_start y_M_start ∈ gw := gm (List.mem_of_getElem? (i := 253) (by decide +kernel)) rfl
theorem ml_L_43 : Cond.methodLink "JournalDeskLaw" 43 y_M_record ∈ gw := gm (List.mem_of_getElem? (i := 255) (by decide +kernel)) rfl
theorem im_M_record : Cond.instanceMethod y_M_record ∈ gw := gm (List.mem_of_getElem? (i := 256) (by decide +kernel)) rfl
theorem sl_M_record : Cond.selects "JournalDeskModel" y_M_record y_M_record ∈ gw := gm (List.mem_of_getElem? (i := 257) (by decide +kernel)) rfl
theorem ml_M_65 : Cond.methodLink "JournalDeskModel" 65 y_M_placeOf ∈ gw := gm (List.mem_of_getElem? (i := 259) (by decide +kernel)) rfl
theorem im_M_placeOf : Cond.instanceMethod y_M_placeOf ∈ gw := gm (List.mem_of_getElem? (i := 261) (by decide +kernel)) rfl
theorem ml_L_48 : Cond.methodLink "JournalDeskLaw" 48 y_M_bytes ∈ gw := gm (List.mem_of_getElem? (i := 263) (by decide +kernel)) rfl
theorem im_M_bytes : Cond.instanceMethod y_M_bytes ∈ gw := gm (List.mem_of_getElem? (i := 264) (by decide +kernel)) rfl
theorem sl_M_bytes : Cond.selects "JournalDeskModel" y_M_bytes y_M_bytes ∈ gw := gm (List.mem_of_getElem? (i := 265) (by decide +kernel)) rfl
theorem cl_M_68 : Cond.constantLong "JournalDeskModel" 68 (-1) ∈ gw := gm (List.mem_of_getElem? (i := 267) (by decide +kernel)) rfl
theorem ml_L_52 : Cond.methodLink "JournalDeskLaw" 52 y_M_count ∈ gw := gm (List.mem_of_getElem? (i := 268) (by decide +kernel)) rfl
theorem im_M_count : Cond.instanceMethod y_M_count ∈ gw := gm (List.mem_of_getElem? (i := 269) (by decide +kernel)) rfl
theorem sl_M_count : Cond.selects "JournalDeskModel" y_M_count y_M_count ∈ gw := gm (List.mem_of_getElem? (i := 270) (by decide +kernel)) rfl
theorem cl_L_13 : Cond.constantLong "JournalDeskLaw" 13 4294967295 ∈ gw := gm (List.mem_of_getElem? (i := 272) (by decide +kernel)) rfl
theorem sl_D_hasRoom : Cond.selects "JournalDesk" y_D_hasRoom y_D_hasRoom ∈ gw := gsl (List.mem_of_getElem? (i := 0) (by decide +kernel)) rfl
theorem sl_D_used : Cond.selects "JournalDesk" y_D_used y_D_used ∈ gw := gsl (List.mem_of_getElem? (i := 1) (by decide +kernel)) rfl
theorem sl_D_append : Cond.selects "JournalDesk" y_D_append y_D_append ∈ gw := gsl (List.mem_of_getElem? (i := 2) (by decide +kernel)) rfl
theorem sl_D_sector : Cond.selects "JournalDesk" y_D_sector y_D_sector ∈ gw := gsl (List.mem_of_getElem? (i := 3) (by decide +kernel)) rfl
theorem sl_D_many : Cond.selects "JournalDesk" y_D_many y_D_many ∈ gw := gsl (List.mem_of_getElem? (i := 4) (by decide +kernel)) rfl
theorem sl_D_whole : Cond.selects "JournalDesk" y_D_whole y_D_whole ∈ gw := gsl (List.mem_of_getElem? (i := 5) (by decide +kernel)) rfl
theorem sl_D_needAt : Cond.selects "JournalDesk" y_D_needAt y_D_needAt ∈ gw := gsl (List.mem_of_getElem? (i := 6) (by decide +kernel)) rfl
theorem sl_D_sizeAt : Cond.selects "JournalDesk" y_D_sizeAt y_D_sizeAt ∈ gw := gsl (List.mem_of_getElem? (i := 7) (by decide +kernel)) rfl
theorem sl_D_find : Cond.selects "JournalDesk" y_D_find y_D_find ∈ gw := gsl (List.mem_of_getElem? (i := 8) (by decide +kernel)) rfl
theorem sl_M_used : Cond.selects "JournalDeskModel" y_M_used y_M_used ∈ gw := gsl (List.mem_of_getElem? (i := 9) (by decide +kernel)) rfl
theorem sl_M_isCut : Cond.selects "JournalDeskModel" y_M_isCut y_M_isCut ∈ gw := gsl (List.mem_of_getElem? (i := 10) (by decide +kernel)) rfl
theorem sl_M_records : Cond.selects "JournalDeskModel" y_M_records y_M_records ∈ gw := gsl (List.mem_of_getElem? (i := 11) (by decide +kernel)) rfl
theorem sl_M_move : Cond.selects "JournalDeskModel" y_M_move y_M_move ∈ gw := gsl (List.mem_of_getElem? (i := 12) (by decide +kernel)) rfl
theorem sl_M_placeOf : Cond.selects "JournalDeskModel" y_M_placeOf y_M_placeOf ∈ gw := gsl (List.mem_of_getElem? (i := 13) (by decide +kernel)) rfl
theorem im_O : Cond.instanceMethod objectInit ∈ gw := gm (List.mem_of_getElem? (i := 12) (by decide +kernel)) rfl
theorem cd_O : Cond.code objectInit ⟨#[0xb1]⟩ 1 none ∈ gw := gm (List.mem_of_getElem? (i := 13) rfl) rfl
theorem mo_D : Cond.methodLink "JournalDesk" 1 objectInit ∈ gw := gm (List.mem_of_getElem? (i := 11) (by decide +kernel)) rfl
theorem mo_K : Cond.methodLink "JournalDesk$Disk" 3 objectInit ∈ gw := gm (List.mem_of_getElem? (i := 19) (by decide +kernel)) rfl
theorem mo_E : Cond.methodLink "JournalDesk$Entry" 3 objectInit ∈ gw := gm (List.mem_of_getElem? (i := 36) (by decide +kernel)) rfl
theorem mm_D_max : Cond.methodLink "JournalDesk" 85 Lib.Math.max.name ∈ gw := gm (List.mem_of_getElem? (i := 87) (by decide +kernel)) rfl
theorem ms_max : Cond.static Lib.Math.max.name ∈ gw := gm (List.mem_of_getElem? (i := 88) (by decide +kernel)) rfl
theorem mc_max : Cond.code Lib.Math.max.name Lib.Math.max.code 2 (some .int) ∈ gw := gm (List.mem_of_getElem? (i := 89) rfl) rfl
theorem mm_E_max : Cond.methodLink "JournalDesk$Entry" 15 Lib.Math.max.name ∈ gw := gm (List.mem_of_getElem? (i := 102) (by decide +kernel)) rfl
theorem mm_D_min : Cond.methodLink "JournalDesk" 72 Lib.Math.min.name ∈ gw := gm (List.mem_of_getElem? (i := 107) (by decide +kernel)) rfl
theorem ms_min : Cond.static Lib.Math.min.name ∈ gw := gm (List.mem_of_getElem? (i := 108) (by decide +kernel)) rfl
theorem mc_min : Cond.code Lib.Math.min.name Lib.Math.min.code 2 (some .int) ∈ gw := gm (List.mem_of_getElem? (i := 109) rfl) rfl
theorem mo_M : Cond.methodLink "JournalDeskModel" 1 objectInit ∈ gw := gm (List.mem_of_getElem? (i := 180) (by decide +kernel)) rfl
theorem gi_of {own C : String} {idx maxL : Nat} {y : MethodName} {bytes : ByteArray} {ret : Option FieldType} (h1 : Cond.methodLink own idx y ∈ gw) (h2 : Cond.instanceMethod y ∈ gw) (h3 : Cond.selects C y y ∈ gw) (h4 : Cond.initialized C ∈ gw) (h5 : Cond.code y bytes maxL ret ∈ gw) : GoodIn gw (wsV own idx C y (Cond.code y bytes maxL ret :: gw)) := by
  intro w hw
  refine gw_good ?_
  unfold wsV at hw
  rcases List.mem_append.mp hw with hw | hw
  · simp only [List.mem_cons, List.not_mem_nil, or_false] at hw
    rcases hw with rfl | rfl | rfl | rfl
    · exact h1
    · exact h2
    · exact h3
    · exact h4
  · rcases List.mem_cons.mp hw with rfl | hw
    · exact h5
    · exact hw
theorem gs_of {own : String} {idx maxL : Nat} {y : MethodName} {bytes : ByteArray} {ret : Option FieldType} (h1 : Cond.methodLink own idx y ∈ gw) (h2 : Cond.static y ∈ gw) (h4 : Cond.initialized own ∈ gw) (h5 : Cond.code y bytes maxL ret ∈ gw) : GoodIn gw (wsS own idx y (Cond.code y bytes maxL ret :: gw)) := by
  intro w hw
  refine gw_good ?_
  unfold wsS at hw
  rcases List.mem_append.mp hw with hw | hw
  · simp only [List.mem_cons, List.not_mem_nil, or_false] at hw
    rcases hw with rfl | rfl | rfl
    · exact h1
    · exact h2
    · exact h4
  · rcases List.mem_cons.mp hw with rfl | hw
    · exact h5
    · exact hw
theorem gc_of {maxL : Nat} {y : MethodName} {bytes : ByteArray} {ret : Option FieldType} (h5 : Cond.code y bytes maxL ret ∈ gw) : GoodIn gw (Cond.code y bytes maxL ret :: gw) := by
  intro w hw
  refine gw_good ?_
  rcases List.mem_cons.mp hw with rfl | hw
  · exact h5
  · exact hw
theorem gi_L_15 : GoodIn gw (wsV "JournalDeskLaw" 15 "JournalDesk" y_D_put (Cond.code y_D_put b_D_put 5 (some .boolean) :: gw)) := gi_of ml_L_15 im_D_put sl_D_put it_D cd_D_put
theorem gi_L_20 : GoodIn gw (wsV "JournalDeskLaw" 20 "JournalDesk" y_D_write (Cond.code y_D_write b_D_write 3 (some .int) :: gw)) := gi_of ml_L_20 im_D_write sl_D_write it_D cd_D_write
theorem gi_D_88 : GoodIn gw (wsV "JournalDesk" 88 "JournalDesk" y_D_hasRoom (Cond.code y_D_hasRoom b_D_hasRoom 2 (some .boolean) :: gw)) := gi_of ml_D_88 im_D_hasRoom sl_D_hasRoom it_D cd_D_hasRoom
theorem gi_D_82 : GoodIn gw (wsV "JournalDesk" 82 "JournalDesk" y_D_used (Cond.code y_D_used b_D_used 3 (some .int) :: gw)) := gi_of ml_D_82 im_D_used sl_D_used it_D cd_D_used
theorem gi_D_44 : GoodIn gw (wsV "JournalDesk" 44 "JournalDesk$Entry" y_E_need (Cond.code y_E_need b_E_need 1 (some .int) :: gw)) := gi_of ml_D_44 im_E_need sl_E_need it_E cd_E_need
theorem gi_D_92 : GoodIn gw (wsV "JournalDesk" 92 "JournalDesk" y_D_append (Cond.code y_D_append b_D_append 9 (some .boolean) :: gw)) := gi_of ml_D_92 im_D_append sl_D_append it_D cd_D_append
theorem gi_D_78 : GoodIn gw (wsV "JournalDesk" 78 "JournalDesk" y_D_sector (Cond.code y_D_sector b_D_sector 7 none :: gw)) := gi_of ml_D_78 im_D_sector sl_D_sector it_D cd_D_sector
theorem gi_D_51 : GoodIn gw (wsV "JournalDesk" 51 "JournalDesk$Disk" y_K_two (Cond.code y_K_two b_K_two 4 none :: gw)) := gi_of ml_D_51 im_K_two sl_K_two it_K cd_K_two
theorem gi_D_55 : GoodIn gw (wsV "JournalDesk" 55 "JournalDesk$Disk" y_K_one (Cond.code y_K_one b_K_one 4 none :: gw)) := gi_of ml_D_55 im_K_one sl_K_one it_K cd_K_one
theorem gi_L_25 : GoodIn gw (wsV "JournalDeskLaw" 25 "JournalDesk" y_D_drop (Cond.code y_D_drop b_D_drop 4 (some .int) :: gw)) := gi_of ml_L_25 im_D_drop sl_D_drop it_D cd_D_drop
theorem gi_D_96 : GoodIn gw (wsV "JournalDesk" 96 "JournalDesk" y_D_many (Cond.code y_D_many b_D_many 3 (some .int) :: gw)) := gi_of ml_D_96 im_D_many sl_D_many it_D cd_D_many
theorem gi_L_30 : GoodIn gw (wsV "JournalDeskLaw" 30 "JournalDesk" y_D_cut (Cond.code y_D_cut b_D_cut 2 (some .boolean) :: gw)) := gi_of ml_L_30 im_D_cut sl_D_cut it_D cd_D_cut
theorem gi_L_35 : GoodIn gw (wsV "JournalDeskLaw" 35 "JournalDesk" y_D_start (Cond.code y_D_start b_D_start 6 (some .int) :: gw)) := gi_of ml_L_35 im_D_start sl_D_start it_D cd_D_start
theorem gi_D_106 : GoodIn gw (wsV "JournalDesk" 106 "JournalDesk$Disk" y_K_readTwo (Cond.code y_K_readTwo b_K_readTwo 3 (some .int) :: gw)) := gi_of ml_D_106 im_K_readTwo sl_K_readTwo it_K cd_K_readTwo
theorem gi_D_112 : GoodIn gw (wsV "JournalDesk" 112 "JournalDesk" y_D_whole (Cond.code y_D_whole b_D_whole 7 (some .int) :: gw)) := gi_of ml_D_112 im_D_whole sl_D_whole it_D cd_D_whole
theorem gi_D_99 : GoodIn gw (wsV "JournalDesk" 99 "JournalDesk$Disk" y_K_readOne (Cond.code y_K_readOne b_K_readOne 3 (some .int) :: gw)) := gi_of ml_D_99 im_K_readOne sl_K_readOne it_K cd_K_readOne
theorem gi_D_109 : GoodIn gw (wsV "JournalDesk" 109 "JournalDesk" y_D_needAt (Cond.code y_D_needAt b_D_needAt 2 (some .int) :: gw)) := gi_of ml_D_109 im_D_needAt sl_D_needAt it_D cd_D_needAt
theorem gi_D_102 : GoodIn gw (wsV "JournalDesk" 102 "JournalDesk" y_D_sizeAt (Cond.code y_D_sizeAt b_D_sizeAt 2 (some .int) :: gw)) := gi_of ml_D_102 im_D_sizeAt sl_D_sizeAt it_D cd_D_sizeAt
theorem gi_L_39 : GoodIn gw (wsV "JournalDeskLaw" 39 "JournalDesk" y_D_record (Cond.code y_D_record b_D_record 4 (some .int) :: gw)) := gi_of ml_L_39 im_D_record sl_D_record it_D cd_D_record
theorem gi_D_115 : GoodIn gw (wsV "JournalDesk" 115 "JournalDesk" y_D_find (Cond.code y_D_find b_D_find 4 (some (.object "JournalDesk$Entry")) :: gw)) := gi_of ml_D_115 im_D_find sl_D_find it_D cd_D_find
theorem gi_L_44 : GoodIn gw (wsV "JournalDeskLaw" 44 "JournalDesk" y_D_bytes (Cond.code y_D_bytes b_D_bytes 9 (some .long) :: gw)) := gi_of ml_L_44 im_D_bytes sl_D_bytes it_D cd_D_bytes
theorem gi_L_49 : GoodIn gw (wsV "JournalDeskLaw" 49 "JournalDesk" y_D_count (Cond.code y_D_count b_D_count 2 (some .int) :: gw)) := gi_of ml_L_49 im_D_count sl_D_count it_D cd_D_count
theorem gi_L_19 : GoodIn gw (wsV "JournalDeskLaw" 19 "JournalDeskModel" y_M_put (Cond.code y_M_put b_M_put 5 (some .boolean) :: gw)) := gi_of ml_L_19 im_M_put sl_M_put it_M cd_M_put
theorem gi_L_24 : GoodIn gw (wsV "JournalDeskLaw" 24 "JournalDeskModel" y_M_write (Cond.code y_M_write b_M_write 3 (some .int) :: gw)) := gi_of ml_L_24 im_M_write sl_M_write it_M cd_M_write
theorem gi_M_44 : GoodIn gw (wsV "JournalDeskModel" 44 "JournalDeskModel" y_M_used (Cond.code y_M_used b_M_used 3 (some .int) :: gw)) := gi_of ml_M_44 im_M_used sl_M_used it_M cd_M_used
theorem gi_M_36 : GoodIn gw (wsS "JournalDeskModel" 36 y_M_sectorsOf (Cond.code y_M_sectorsOf b_M_sectorsOf 1 (some .int) :: gw)) := gs_of ml_M_36 st_M_sectorsOf it_M cd_M_sectorsOf
theorem gi_M_48 : GoodIn gw (wsV "JournalDeskModel" 48 "JournalDeskModel" y_M_isCut (Cond.code y_M_isCut b_M_isCut 1 (some .boolean) :: gw)) := gi_of ml_M_48 im_M_isCut sl_M_isCut it_M cd_M_isCut
theorem gi_L_29 : GoodIn gw (wsV "JournalDeskLaw" 29 "JournalDeskModel" y_M_drop (Cond.code y_M_drop b_M_drop 7 (some .int) :: gw)) := gi_of ml_L_29 im_M_drop sl_M_drop it_M cd_M_drop
theorem gi_M_58 : GoodIn gw (wsV "JournalDeskModel" 58 "JournalDeskModel" y_M_records (Cond.code y_M_records b_M_records 3 (some .int) :: gw)) := gi_of ml_M_58 im_M_records sl_M_records it_M cd_M_records
theorem gi_M_61 : GoodIn gw (wsV "JournalDeskModel" 61 "JournalDeskModel" y_M_move (Cond.code y_M_move b_M_move 4 none :: gw)) := gi_of ml_M_61 im_M_move sl_M_move it_M cd_M_move
theorem gi_L_34 : GoodIn gw (wsV "JournalDeskLaw" 34 "JournalDeskModel" y_M_cut (Cond.code y_M_cut b_M_cut 2 (some .boolean) :: gw)) := gi_of ml_L_34 im_M_cut sl_M_cut it_M cd_M_cut
theorem gi_L_38 : GoodIn gw (wsV "JournalDeskLaw" 38 "JournalDeskModel" y_M_start (Cond.code y_M_start b_M_start 1 (some .int) :: gw)) := gi_of ml_L_38 im_M_start sl_M_start it_M cd_M_start
theorem gi_L_43 : GoodIn gw (wsV "JournalDeskLaw" 43 "JournalDeskModel" y_M_record (Cond.code y_M_record b_M_record 4 (some .int) :: gw)) := gi_of ml_L_43 im_M_record sl_M_record it_M cd_M_record
theorem gi_M_65 : GoodIn gw (wsV "JournalDeskModel" 65 "JournalDeskModel" y_M_placeOf (Cond.code y_M_placeOf b_M_placeOf 4 (some .int) :: gw)) := gi_of ml_M_65 im_M_placeOf sl_M_placeOf it_M cd_M_placeOf
theorem gi_L_48 : GoodIn gw (wsV "JournalDeskLaw" 48 "JournalDeskModel" y_M_bytes (Cond.code y_M_bytes b_M_bytes 7 (some .long) :: gw)) := gi_of ml_L_48 im_M_bytes sl_M_bytes it_M cd_M_bytes
theorem gi_L_52 : GoodIn gw (wsV "JournalDeskLaw" 52 "JournalDeskModel" y_M_count (Cond.code y_M_count b_M_count 2 (some .int) :: gw)) := gi_of ml_L_52 im_M_count sl_M_count it_M cd_M_count
/-- what the tables say of nest mates (these words are no table words of the methods) -/
def KN (U : State) : Prop := va_Nw (.methodLinkNest "JournalDesk" 9 ⟨"JournalDesk$Disk", "<init>", "()V"⟩ "JournalDesk") U ∧ va_Nw (.fieldLinkNest "JournalDesk" 61 "JournalDesk$Disk" "right" "[Z" "JournalDesk") U ∧ va_Nw (.methodLinkNest "JournalDesk" 34 ⟨"JournalDesk$Entry", "<init>", "()V"⟩ "JournalDesk") U ∧ va_Nw (.fieldLinkNest "JournalDesk" 68 "JournalDesk$Entry" "at" "I" "JournalDesk") U ∧ va_Nw (.fieldLinkNest "JournalDesk" 71 "JournalDesk$Entry" "size" "I" "JournalDesk") U ∧ va_Nw (.fieldLinkNest "JournalDesk" 48 "JournalDesk$Entry" "number" "I" "JournalDesk") U ∧ va_AO "JournalDesk$Entry" U
theorem KN.warm {s U : State} (hW : s.WarmedH U.vm) (h : KN s) : KN U := by
  obtain ⟨h0, h1, h2, h3, h4, h5, hA⟩ := h
  exact ⟨h0.warmM hW, h1.warmF hW, h2.warmM hW, h3.warmF hW, h4.warmF hW, h5.warmF hW, hA.moved hW.alike⟩
theorem KN.same {u U : State} (h : u.vm = U.vm) (hN : KN u) : KN U := by
  obtain ⟨h0, h1, h2, h3, h4, h5, hA⟩ := hN
  exact ⟨h0.same rfl h, h1.same rfl h, h2.same rfl h, h3.same rfl h, h4.same rfl h, h5.same rfl h, hA.moved (by rw [h]; exact Vm.Alike.refl U.vm)⟩
theorem KN.of {A : Array Value} {s : State} (h : ∀ w ∈ tables_1, w.before A s = true) : KN s := by
  refine ⟨?_, ?_, ?_, ?_, ?_, ?_, ?_⟩
  · exact va_Nw.of rfl (h _ (List.mem_of_getElem? (i := 16) (by decide +kernel)))
  · exact va_Nw.of rfl (h _ (List.mem_of_getElem? (i := 22) (by decide +kernel)))
  · exact va_Nw.of rfl (h _ (List.mem_of_getElem? (i := 33) (by decide +kernel)))
  · exact va_Nw.of rfl (h _ (List.mem_of_getElem? (i := 37) (by decide +kernel)))
  · exact va_Nw.of rfl (h _ (List.mem_of_getElem? (i := 39) (by decide +kernel)))
  · exact va_Nw.of rfl (h _ (List.mem_of_getElem? (i := 40) (by decide +kernel)))
  · exact va_AO.of (h _ (List.mem_of_getElem? (i := 31) (by decide +kernel)))
end
section
/-! what all methods' walks share: the standing facts, rows over numbers nI n, arrays by Nat places, calls in an ambient world -/
abbrev tyc (cs : Nat → ClassId) : List (ClassId × FieldType) := [(cs 0, .byte), (cs 1, .boolean), (cs 2, .object "JournalDesk$Entry"), (cs 3, .int)]
/-- the standing facts of a method: machine, code, own class, the tables' words, classes and array classes, nest words -/
def Bd (p : Program) (s : State) (m : MethodId) (args : Array Value) (c : Code) (cc : ByteArray) (own : String) (nL : Nat) (D : va_G) (cs : Nat → ClassId) : Prop :=
  p.tables.exec = Jvm.exec ∧ c.code = cc ∧ c.maxLocals = nL ∧ s.vm.findClass own = some m.cls ∧ (∀ w ∈ gw, w.before args s = true) ∧ va_K D classes (tyc cs) s ∧ KN s
/-- the start of a contract: the world ws holds, its cells are apart and in A, and the tables say what they say -/
def St (D : va_G) (cs : Nat → ClassId) (A : Nat → Prop) (ws : va_W) (U : State) : Prop := va_P D classes ws U.heap ∧ (va_K D classes (tyc cs) U ∧ KN U) ∧ va_D A ws
theorem St.blind {D : va_G} {cs : Nat → ClassId} {A : Nat → Prop} {ws : va_W} {av : List Value} : FrameBlind (va_Pc av (St D cs A ws)) := by
  intro a U g mk q
  obtain ⟨q0, qP, qK, qD⟩ := q
  exact ⟨q0, qP, ⟨va_K.moved (u := U) (U := U.calling g mk a) (Vm.Alike.refl U.vm) qK.1, KN.same (u := U) (U := U.calling g mk a) rfl qK.2⟩, qD⟩
theorem x_start {l : Launch} {y : MethodName} {cc : ByteArray} {maxL : Nat} {ret : Option FieldType} {rm : Room} {av : List Value} {Qc : Array Value → State → Outcome → State → Prop} {mc ms : Nat} {free : Addr → Prop} {D : va_G} {cs : Nat → ClassId} {A : Nat → Prop} {ws : va_W} (hy : plainName y.cls = true) (hlen : (lg_sl av).length ≤ maxL)
    (body : ∀ (p : Program) (e : Env) (s : State) (m : MethodId) (below : List Frame) (meth : Method) (c : Code), Bd p s m av.toArray c cc y.cls maxL D cs → meth.sig.returnType = ret → meth.locks = false → meth.name = y.name → va_P D classes ws s.heap → va_D A ws → ∀ ls : Array Slot, lv_has ls maxL (lv_args 0 av) → W p l e rm s m av.toArray below meth c s.heap [] 0 0 (MQ below Qc av.toArray s mc ms free) (F0 m 0 ls [])) :
    Met l y (Cond.code y cc maxL ret :: gw) rm (va_Pc av (St D cs A ws)) Qc mc ms free := by
  refine Met.ofW (cc := cc) (maxL := maxL) (ret := ret) hy rfl ?_
  intro p e s m args below meth c s₁ B hml hv
  obtain ⟨rfl, hP, hK, hD⟩ := hv
  have hts := atoms_spec (ws := Cond.code y cc maxL ret :: gw) B.pre
  have hl := lv_entry av (n := maxL) hlen
  rw [lg_entry_eq]
  generalize (lg_sl av ++ List.replicate (maxL - (lg_sl av).length) Slot.unset).toArray = ls at hl ⊢
  exact body p e s m below meth c ⟨B.exec, B.bytes, hml, findClass_of_methodNamed B.named, fun w hw => hts w (List.mem_cons_of_mem _ hw), hK.1, hK.2⟩ B.returns B.notSynchronized (name_of_methodNamed B.named B.method).1 hP hD ls hl
/-- the ends of contracts that write: the new world is the answer's second part -/
abbrev QI (D : va_G) (A : Nat → Prop) (post : Int32 → va_W → Prop) : Array Value → State → Outcome → State → Prop := va_Qi post (fun (w : va_W) (t : State) => va_P D classes w t.heap ∧ va_D A w) A
abbrev QV (D : va_G) (A : Nat → Prop) (post : va_W → Prop) : Array Value → State → Outcome → State → Prop := va_Qv post (fun (w : va_W) (t : State) => va_P D classes w t.heap ∧ va_D A w) A
abbrev rmn (n : Nat) : Room := { frames := n, cells := 0, slots := 0, locals := 30 * n }
section XRA
variable {p : Program} {l : Launch} {e : Env} {R : Room} {s : State} {m : MethodId} {args : Array Value} {below : List Frame} {meth : Method} {c : Code} {H : Heap} {locs : List Loc} {cells slots : Nat} {Q : State → Prop}
variable {cc : ByteArray} {pc : Nat} {ls : Array Slot} {rest : List Value}
theorem tp_i {x y : Int32} (h : x = y) (k : W p l e R s m args below meth c H locs cells slots Q (F0 m pc ls (.int y :: rest))) : W p l e R s m args below meth c H locs cells slots Q (F0 m pc ls (.int x :: rest)) := by
  rw [h]; exact k
theorem tp_l {x y : Int64} (h : x = y) (k : W p l e R s m args below meth c H locs cells slots Q (F0 m pc ls (.long y :: rest))) : W p l e R s m args below meth c H locs cells slots Q (F0 m pc ls (.long x :: rest)) := by
  rw [h]; exact k
theorem n_add (hx : p.tables.exec = Jvm.exec) (hb : c.code = cc) {a b : Nat} (hdg : decode cc pc = .ok (.iadd, 1)) (k : W p l e R s m args below meth c H locs cells slots Q (F0 m (pc + 1) ls (.int (nI (a + b)) :: rest))) : W p l e R s m args below meth c H locs cells slots Q (F0 m pc ls (.int (nI b) :: .int (nI a) :: rest)) := lv_iadd hx hb hdg (tp_i (nI_add a b) k)
theorem n_sub (hx : p.tables.exec = Jvm.exec) (hb : c.code = cc) {a b : Nat} (h : b ≤ a) (hdg : decode cc pc = .ok (.isub, 1)) (k : W p l e R s m args below meth c H locs cells slots Q (F0 m (pc + 1) ls (.int (nI (a - b)) :: rest))) : W p l e R s m args below meth c H locs cells slots Q (F0 m pc ls (.int (nI b) :: .int (nI a) :: rest)) := lv_isub hx hb hdg (tp_i (pk_sub h) k)
theorem n_mul (hx : p.tables.exec = Jvm.exec) (hb : c.code = cc) {a b : Nat} (hdg : decode cc pc = .ok (.imul, 1)) (k : W p l e R s m args below meth c H locs cells slots Q (F0 m (pc + 1) ls (.int (nI (a * b)) :: rest))) : W p l e R s m args below meth c H locs cells slots Q (F0 m pc ls (.int (nI b) :: .int (nI a) :: rest)) := lv_imul hx hb hdg (tp_i (pk_mul a b) k)
theorem n_div (hx : p.tables.exec = Jvm.exec) (hb : c.code = cc) {a d : Nat} (ha : a < 2 ^ 31) (h0 : 0 < d) (hd : d < 2 ^ 31) (hdg : decode cc pc = .ok (.idiv, 1)) (k : W p l e R s m args below meth c H locs cells slots Q (F0 m (pc + 1) ls (.int (nI (a / d)) :: rest))) : W p l e R s m args below meth c H locs cells slots Q (F0 m pc ls (.int (nI d) :: .int (nI a) :: rest)) := lv_idiv hx hb hdg (nI_ne0 h0 hd) (tp_i (pk_div ha h0 hd) k)
theorem n_rem (hx : p.tables.exec = Jvm.exec) (hb : c.code = cc) {a d : Nat} (ha : a < 2 ^ 31) (h0 : 0 < d) (hd : d < 2 ^ 31) (hdg : decode cc pc = .ok (.irem, 1)) (k : W p l e R s m args below meth c H locs cells slots Q (F0 m (pc + 1) ls (.int (nI (a % d)) :: rest))) : W p l e R s m args below meth c H locs cells slots Q (F0 m pc ls (.int (nI d) :: .int (nI a) :: rest)) := lv_irem hx hb hdg (nI_ne0 h0 hd) (tp_i (pk_rem ha h0 hd) k)
theorem n_inc (hx : p.tables.exec = Jvm.exec) (hb : c.code = cc) {i nL k a d : Nat} {n : Int} {lv lv' : List (Nat × Value)} (hdg : decode cc pc = .ok (.iinc i n, 3)) (hd : Int32.ofInt n = nI d) (h : lv_has ls nL lv) (hk : lv[k]? = some (i, .int (nI a))) (hn : i < nL) (hl : (i, Value.int (nI (a + d))) :: lv.filter (fun q => !(q.1 == i) && !(q.1 + 1 == i && q.2.category == 2)) = lv')
    (kk : ∀ ls' : Array Slot, lv_has ls' nL lv' → W p l e R s m args below meth c H locs cells slots Q (F0 m (pc + 3) ls' rest)) : W p l e R s m args below meth c H locs cells slots Q (F0 m pc ls rest) := lv_iinc (v := nI (a + d)) hx hb hdg h hk (by rw [hd, nI_add]) hn hl kk
theorem n_dec (hx : p.tables.exec = Jvm.exec) (hb : c.code = cc) {i nL k a : Nat} {lv lv' : List (Nat × Value)} (hdg : decode cc pc = .ok (.iinc i (-1), 3)) (h : lv_has ls nL lv) (hk : lv[k]? = some (i, .int (nI (a + 1)))) (hn : i < nL) (hl : (i, Value.int (nI a)) :: lv.filter (fun q => !(q.1 == i) && !(q.1 + 1 == i && q.2.category == 2)) = lv')
    (kk : ∀ ls' : Array Slot, lv_has ls' nL lv' → W p l e R s m args below meth c H locs cells slots Q (F0 m (pc + 3) ls' rest)) : W p l e R s m args below meth c H locs cells slots Q (F0 m pc ls rest) := lv_iinc (v := nI a) hx hb hdg h hk (by rw [show Int32.ofInt (-1) = (-1 : Int32) from rfl]; exact pk_m1 a) hn hl kk
theorem n_icmp_ge (hx : p.tables.exec = Jvm.exec) (hb : c.code = cc) {a b : Nat} (ha : a < 2 ^ 31) (hb2 : b < 2 ^ 31) {off : Int} {tgt : Nat} (hdg : decode cc pc = .ok (.if_icmp .ge off, 3)) (ht : (pc : Int) + off = (tgt : Int))
    (kt : b ≤ a → W p l e R s m args below meth c H locs cells slots Q (F0 m tgt ls rest)) (kf : a < b → W p l e R s m args below meth c H locs cells slots Q (F0 m (pc + 3) ls rest)) : W p l e R s m args below meth c H locs cells slots Q (F0 m pc ls (.int (nI b) :: .int (nI a) :: rest)) :=
  lv_icmp_ge hx hb hdg ht (fun h => kt ((nI_leI hb2 ha).mp h)) (fun h => kf (Nat.lt_of_not_le fun q => h ((nI_leI hb2 ha).mpr q)))
theorem n_icmp_gt (hx : p.tables.exec = Jvm.exec) (hb : c.code = cc) {a b : Nat} (ha : a < 2 ^ 31) (hb2 : b < 2 ^ 31) {off : Int} {tgt : Nat} (hdg : decode cc pc = .ok (.if_icmp .gt off, 3)) (ht : (pc : Int) + off = (tgt : Int))
    (kt : b < a → W p l e R s m args below meth c H locs cells slots Q (F0 m tgt ls rest)) (kf : a ≤ b → W p l e R s m args below meth c H locs cells slots Q (F0 m (pc + 3) ls rest)) : W p l e R s m args below meth c H locs cells slots Q (F0 m pc ls (.int (nI b) :: .int (nI a) :: rest)) :=
  lv_icmp_gt hx hb hdg ht (fun h => kt ((nI_ltI hb2 ha).mp h)) (fun h => kf (Nat.le_of_not_lt fun q => h ((nI_ltI hb2 ha).mpr q)))
theorem n_icmp_le (hx : p.tables.exec = Jvm.exec) (hb : c.code = cc) {a b : Nat} (ha : a < 2 ^ 31) (hb2 : b < 2 ^ 31) {off : Int} {tgt : Nat} (hdg : decode cc pc = .ok (.if_icmp .le off, 3)) (ht : (pc : Int) + off = (tgt : Int))
    (kt : a ≤ b → W p l e R s m args below meth c H locs cells slots Q (F0 m tgt ls rest)) (kf : b < a → W p l e R s m args below meth c H locs cells slots Q (F0 m (pc + 3) ls rest)) : W p l e R s m args below meth c H locs cells slots Q (F0 m pc ls (.int (nI b) :: .int (nI a) :: rest)) :=
  lv_icmp_le hx hb hdg ht (fun h => kt ((nI_leI ha hb2).mp h)) (fun h => kf (Nat.lt_of_not_le fun q => h ((nI_leI ha hb2).mpr q)))
theorem n_icmp_lt (hx : p.tables.exec = Jvm.exec) (hb : c.code = cc) {a b : Nat} (ha : a < 2 ^ 31) (hb2 : b < 2 ^ 31) {off : Int} {tgt : Nat} (hdg : decode cc pc = .ok (.if_icmp .lt off, 3)) (ht : (pc : Int) + off = (tgt : Int))
    (kt : a < b → W p l e R s m args below meth c H locs cells slots Q (F0 m tgt ls rest)) (kf : b ≤ a → W p l e R s m args below meth c H locs cells slots Q (F0 m (pc + 3) ls rest)) : W p l e R s m args below meth c H locs cells slots Q (F0 m pc ls (.int (nI b) :: .int (nI a) :: rest)) :=
  lv_icmp_lt hx hb hdg ht (fun h => kt ((nI_ltI ha hb2).mp h)) (fun h => kf (Nat.le_of_not_lt fun q => h ((nI_ltI ha hb2).mpr q)))
theorem n_icmp_eq (hx : p.tables.exec = Jvm.exec) (hb : c.code = cc) {a b : Nat} (ha : a < 2 ^ 31) (hb2 : b < 2 ^ 31) {off : Int} {tgt : Nat} (hdg : decode cc pc = .ok (.if_icmp .eq off, 3)) (ht : (pc : Int) + off = (tgt : Int))
    (kt : a = b → W p l e R s m args below meth c H locs cells slots Q (F0 m tgt ls rest)) (kf : ¬ a = b → W p l e R s m args below meth c H locs cells slots Q (F0 m (pc + 3) ls rest)) : W p l e R s m args below meth c H locs cells slots Q (F0 m pc ls (.int (nI b) :: .int (nI a) :: rest)) :=
  lv_icmp_eq hx hb hdg ht (fun h => kt ((nI_eq ha hb2).mp h)) (fun h => kf fun q => h (by rw [q]))
theorem n_icmp_ne (hx : p.tables.exec = Jvm.exec) (hb : c.code = cc) {a b : Nat} (ha : a < 2 ^ 31) (hb2 : b < 2 ^ 31) {off : Int} {tgt : Nat} (hdg : decode cc pc = .ok (.if_icmp .ne off, 3)) (ht : (pc : Int) + off = (tgt : Int))
    (kt : ¬ a = b → W p l e R s m args below meth c H locs cells slots Q (F0 m tgt ls rest)) (kf : a = b → W p l e R s m args below meth c H locs cells slots Q (F0 m (pc + 3) ls rest)) : W p l e R s m args below meth c H locs cells slots Q (F0 m pc ls (.int (nI b) :: .int (nI a) :: rest)) :=
  lv_icmp_ne hx hb hdg ht (fun h => kt fun q => h (by rw [q])) (fun h => kf ((nI_eq ha hb2).mp h))
theorem n_if_eq (hx : p.tables.exec = Jvm.exec) (hb : c.code = cc) {a : Nat} (ha : a < 2 ^ 31) {off : Int} {tgt : Nat} (hdg : decode cc pc = .ok (.ifCond .eq off, 3)) (ht : (pc : Int) + off = (tgt : Int))
    (kt : a = 0 → W p l e R s m args below meth c H locs cells slots Q (F0 m tgt ls rest)) (kf : ¬ a = 0 → W p l e R s m args below meth c H locs cells slots Q (F0 m (pc + 3) ls rest)) : W p l e R s m args below meth c H locs cells slots Q (F0 m pc ls (.int (nI a) :: rest)) :=
  lv_if_eq hx hb hdg ht (fun h => kt ((nI_eq ha (by decide)).mp (h.trans nI_0.symm))) (fun h => kf fun q => h (by rw [q]; exact nI_0))
theorem n_if_ne (hx : p.tables.exec = Jvm.exec) (hb : c.code = cc) {a : Nat} (ha : a < 2 ^ 31) {off : Int} {tgt : Nat} (hdg : decode cc pc = .ok (.ifCond .ne off, 3)) (ht : (pc : Int) + off = (tgt : Int))
    (kt : ¬ a = 0 → W p l e R s m args below meth c H locs cells slots Q (F0 m tgt ls rest)) (kf : a = 0 → W p l e R s m args below meth c H locs cells slots Q (F0 m (pc + 3) ls rest)) : W p l e R s m args below meth c H locs cells slots Q (F0 m pc ls (.int (nI a) :: rest)) :=
  lv_if_ne hx hb hdg ht (fun h => kt fun q => h (by rw [q]; exact nI_0)) (fun h => kf ((nI_eq ha (by decide)).mp (h.trans nI_0.symm)))
theorem n_if_lt (hx : p.tables.exec = Jvm.exec) (hb : c.code = cc) {a : Nat} (ha : a < 2 ^ 31) {off : Int} {tgt : Nat} (hdg : decode cc pc = .ok (.ifCond .lt off, 3)) (ht : (pc : Int) + off = (tgt : Int))
    (kf : W p l e R s m args below meth c H locs cells slots Q (F0 m (pc + 3) ls rest)) : W p l e R s m args below meth c H locs cells slots Q (F0 m pc ls (.int (nI a) :: rest)) :=
  lv_if_lt hx hb hdg ht (fun h => absurd h (nI_pos ha)) (fun _ => kf)
theorem n_if_ge (hx : p.tables.exec = Jvm.exec) (hb : c.code = cc) {a : Nat} (ha : a < 2 ^ 31) {off : Int} {tgt : Nat} (hdg : decode cc pc = .ok (.ifCond .ge off, 3)) (ht : (pc : Int) + off = (tgt : Int))
    (kt : W p l e R s m args below meth c H locs cells slots Q (F0 m tgt ls rest)) : W p l e R s m args below meth c H locs cells slots Q (F0 m pc ls (.int (nI a) :: rest)) :=
  lv_if_ge hx hb hdg ht (fun _ => kt) (fun h => absurd (nI_pos' ha) h)
theorem n_if_gt (hx : p.tables.exec = Jvm.exec) (hb : c.code = cc) {a : Nat} (ha : a < 2 ^ 31) {off : Int} {tgt : Nat} (hdg : decode cc pc = .ok (.ifCond .gt off, 3)) (ht : (pc : Int) + off = (tgt : Int))
    (kt : 0 < a → W p l e R s m args below meth c H locs cells slots Q (F0 m tgt ls rest)) (kf : a = 0 → W p l e R s m args below meth c H locs cells slots Q (F0 m (pc + 3) ls rest)) : W p l e R s m args below meth c H locs cells slots Q (F0 m pc ls (.int (nI a) :: rest)) :=
  lv_if_gt hx hb hdg ht (fun h => kt ((nI_ltI (a := 0) (by decide) ha).mp (by rw [nI_0]; exact h))) (fun h => kf (Nat.eq_zero_of_not_pos fun q => h (by rw [← nI_0]; exact (nI_ltI (by decide) ha).mpr q)))
variable {D : va_G} {cl : List vw_C} {A : Nat → Prop} {a : Nat} {tys : List (ClassId × FieldType)} {ws : va_W} {H0 : Heap}
theorem n_iald (hx : p.tables.exec = Jvm.exec) (hb : c.code = cc) (hK : va_K D cl tys s) (hP : va_P D cl ws H) (q0 t0 : Nat) {cA : ClassId} {n i : Nat} {f : Nat → Int32} (ha : ws[q0]? = some (a, .inl (cA, n, .inl f))) (ht : tys[t0]? = some (cA, .int)) (hi : i < n) (hn : n < 2 ^ 31) (hdg : decode cc pc = .ok (.iaload, 1))
    (kk : W p l e R s m args below meth c H locs cells slots Q (F0 m (pc + 1) ls (.int (f i) :: rest))) : W p l e R s m args below meth c H locs cells slots Q (F0 m pc ls (.int (nI i) :: .ref a :: rest)) := va_iald hx hb hK hP q0 t0 ha ht (vp_in_nI hi hn) hdg (by rw [nI_clamp (Nat.lt_trans hi hn)]; exact kk)
theorem n_bald (hx : p.tables.exec = Jvm.exec) (hb : c.code = cc) (hK : va_K D cl tys s) (hP : va_P D cl ws H) (q0 t0 : Nat) {cA : ClassId} {n i : Nat} {f : Nat → Int32} (ha : ws[q0]? = some (a, .inl (cA, n, .inl f))) (ht : tys[t0]? = some (cA, .byte)) (hi : i < n) (hn : n < 2 ^ 31) (hdg : decode cc pc = .ok (.baload, 1))
    (kk : W p l e R s m args below meth c H locs cells slots Q (F0 m (pc + 1) ls (.int (f i) :: rest))) : W p l e R s m args below meth c H locs cells slots Q (F0 m pc ls (.int (nI i) :: .ref a :: rest)) := va_bald hx hb hK hP q0 t0 ha ht (vp_in_nI hi hn) hdg (by rw [nI_clamp (Nat.lt_trans hi hn)]; exact kk)
theorem n_zald (hx : p.tables.exec = Jvm.exec) (hb : c.code = cc) (hK : va_K D cl tys s) (hP : va_P D cl ws H) (q0 t0 : Nat) {cA : ClassId} {n i : Nat} {f : Nat → Int32} (ha : ws[q0]? = some (a, .inl (cA, n, .inl f))) (ht : tys[t0]? = some (cA, .boolean)) (hi : i < n) (hn : n < 2 ^ 31) (hdg : decode cc pc = .ok (.baload, 1))
    (kk : W p l e R s m args below meth c H locs cells slots Q (F0 m (pc + 1) ls (.int (f i) :: rest))) : W p l e R s m args below meth c H locs cells slots Q (F0 m pc ls (.int (nI i) :: .ref a :: rest)) := va_zald hx hb hK hP q0 t0 ha ht (vp_in_nI hi hn) hdg (by rw [nI_clamp (Nat.lt_trans hi hn)]; exact kk)
theorem n_iast (hx : p.tables.exec = Jvm.exec) (hb : c.code = cc) (hK : va_K D cl tys s) (hP : va_P D cl ws H) (hD : va_D A ws) (hS : va_S A H0 H locs) (q0 t0 : Nat) {cA : ClassId} {n i : Nat} {f : Nat → Int32} (ha : ws[q0]? = some (a, .inl (cA, n, .inl f))) (ht : tys[t0]? = some (cA, .int)) {x : Int32} (hi : i < n) (hn : n < 2 ^ 31) (hdg : decode cc pc = .ok (.iastore, 1))
    (kk : ∀ (H1 : Heap) (locs1 : List Loc), va_P D cl (ws.set q0 (a, .inl (cA, n, .inl (upd f i x)))) H1 → va_D A (ws.set q0 (a, .inl (cA, n, .inl (upd f i x)))) → va_S A H0 H1 locs1 → W p l e R s m args below meth c H1 locs1 cells slots Q (F0 m (pc + 1) ls rest)) : W p l e R s m args below meth c H locs cells slots Q (F0 m pc ls (.int x :: .int (nI i) :: .ref a :: rest)) := va_iast hx hb hK hP hD hS q0 t0 ha ht (vp_in_nI hi hn) hdg (by rw [nI_clamp (Nat.lt_trans hi hn)]; exact kk)
theorem n_bast (hx : p.tables.exec = Jvm.exec) (hb : c.code = cc) (hK : va_K D cl tys s) (hP : va_P D cl ws H) (hD : va_D A ws) (hS : va_S A H0 H locs) (q0 t0 : Nat) {cA : ClassId} {n i : Nat} {f : Nat → Int32} (ha : ws[q0]? = some (a, .inl (cA, n, .inl f))) (ht : tys[t0]? = some (cA, .byte)) {x : Int32} (hi : i < n) (hn : n < 2 ^ 31) (hdg : decode cc pc = .ok (.bastore, 1))
    (kk : ∀ (H1 : Heap) (locs1 : List Loc), va_P D cl (ws.set q0 (a, .inl (cA, n, .inl (upd f i x.toInt8.toInt32)))) H1 → va_D A (ws.set q0 (a, .inl (cA, n, .inl (upd f i x.toInt8.toInt32)))) → va_S A H0 H1 locs1 → W p l e R s m args below meth c H1 locs1 cells slots Q (F0 m (pc + 1) ls rest)) : W p l e R s m args below meth c H locs cells slots Q (F0 m pc ls (.int x :: .int (nI i) :: .ref a :: rest)) := va_bast hx hb hK hP hD hS q0 t0 ha ht (vp_in_nI hi hn) hdg (by rw [nI_clamp (Nat.lt_trans hi hn)]; exact kk)
theorem n_bastB (hx : p.tables.exec = Jvm.exec) (hb : c.code = cc) (hK : va_K D cl tys s) (hP : va_P D cl ws H) (hD : va_D A ws) (hS : va_S A H0 H locs) (q0 t0 : Nat) {cA : ClassId} {n i : Nat} {f : Nat → Int32} (ha : ws[q0]? = some (a, .inl (cA, n, .inl f))) (ht : tys[t0]? = some (cA, .byte)) {x : Int32} (hi : i < n) (hn : n < 2 ^ 31) (hdg : decode cc pc = .ok (.bastore, 1))
    (kk : ∀ (H1 : Heap) (locs1 : List Loc), va_P D cl (ws.set q0 (a, .inl (cA, n, .inl (upd f i x.toInt8.toInt32)))) H1 → va_D A (ws.set q0 (a, .inl (cA, n, .inl (upd f i x.toInt8.toInt32)))) → va_S A H0 H1 locs1 → W p l e R s m args below meth c H1 locs1 cells slots Q (F0 m (pc + 1) ls rest)) : W p l e R s m args below meth c H locs cells slots Q (F0 m pc ls (.int x.toInt8.toInt32 :: .int (nI i) :: .ref a :: rest)) := va_bast hx hb hK hP hD hS q0 t0 ha ht (vp_in_nI hi hn) hdg (by rw [nI_clamp (Nat.lt_trans hi hn), pk_vb]; exact kk)
theorem n_zast (hx : p.tables.exec = Jvm.exec) (hb : c.code = cc) (hK : va_K D cl tys s) (hP : va_P D cl ws H) (hD : va_D A ws) (hS : va_S A H0 H locs) (q0 t0 : Nat) {cA : ClassId} {n i : Nat} {f : Nat → Int32} (ha : ws[q0]? = some (a, .inl (cA, n, .inl f))) (ht : tys[t0]? = some (cA, .boolean)) {x : Int32} (hv : vp_nar .boolean x = x) (hi : i < n) (hn : n < 2 ^ 31) (hdg : decode cc pc = .ok (.bastore, 1))
    (kk : ∀ (H1 : Heap) (locs1 : List Loc), va_P D cl (ws.set q0 (a, .inl (cA, n, .inl (upd f i x)))) H1 → va_D A (ws.set q0 (a, .inl (cA, n, .inl (upd f i x)))) → va_S A H0 H1 locs1 → W p l e R s m args below meth c H1 locs1 cells slots Q (F0 m (pc + 1) ls rest)) : W p l e R s m args below meth c H locs cells slots Q (F0 m pc ls (.int x :: .int (nI i) :: .ref a :: rest)) := va_zast hx hb hK hP hD hS q0 t0 ha ht (vp_in_nI hi hn) hdg (by rw [nI_clamp (Nat.lt_trans hi hn), hv]; exact kk)
theorem n_aldq (hx : p.tables.exec = Jvm.exec) (hb : c.code = cc) (hK : va_K D cl tys s) (hP : va_P D cl ws H) (q0 t0 : Nat) {cA : ClassId} {C : String} {n i : Nat} {f : Nat → Nat} (ha : ws[q0]? = some (a, .inl (cA, n, .inr (.inr (.inr (.inr (fun j => some (f j)))))))) (ht : tys[t0]? = some (cA, .object C)) (hi : i < n) (hn : n < 2 ^ 31) (hdg : decode cc pc = .ok (.aaload, 1))
    (kk : W p l e R s m args below meth c H locs cells slots Q (F0 m (pc + 1) ls (.ref (f i) :: rest))) : W p l e R s m args below meth c H locs cells slots Q (F0 m pc ls (.int (nI i) :: .ref a :: rest)) := va_aldq hx hb hK hP q0 t0 ha ht (vp_in_nI hi hn) hdg (by rw [nI_clamp (Nat.lt_trans hi hn)]; exact kk)
end XRA
section XRB
variable {p : Program} {l : Launch} {e : Env} {R : Room} {s : State} {m : MethodId} {args : Array Value} {below : List Frame} {meth : Method} {c : Code} {H : Heap} {locs : List Loc} {cells slots : Nat} {Q : State → Prop}
variable {cc : ByteArray} {pc : Nat} {ls : Array Slot} {rest : List Value} {own : String} {nL : Nat} {D : va_G} {cs : Nat → ClassId} {A : Nat → Prop} {a : Nat} {ws : va_W} {H0 : Heap}
theorem x_get (hB : Bd p s m args c cc own nL D cs) (hP : va_P D classes ws H) (q0 : Nat) {C : String} {T : u_T} {N ci index k : Nat} {fs : List Value} {v : Value} (hin : ∀ w ∈ u_ws C T N, w ∈ gw) (hc : classes[ci]? = some (C, T, N)) (hk : k < N) (hlink : Cond.fieldLink own index (T k).1 (T k).2.1 (T k).2.2.1 ∈ gw) (he : ws[q0]? = some (a, .inr (ci, fs))) (hv : fs[k]? = some v) (hdg : decode cc pc = .ok (.getfield index, 3))
    (kk : W p l e R s m args below meth c H locs cells slots Q (F0 m (pc + 3) ls (v :: rest))) : W p l e R s m args below meth c H locs cells slots Q (F0 m pc ls (.ref a :: rest)) := by
  obtain ⟨hx, hb, hml, hown, hts, hK, hN⟩ := hB
  exact va_get hx hb hts hin hown hK hP q0 he hc k hk (hts _ hlink) (fun _ h9 => h9) hv hdg kk
theorem x_put (hB : Bd p s m args c cc own nL D cs) (hP : va_P D classes ws H) (hD : va_D A ws) (hS : va_S A H0 H locs) (q0 : Nat) {C : String} {T : u_T} {N ci index k : Nat} {fs : List Value} {v : Value} (hin : ∀ w ∈ u_ws C T N, w ∈ gw) (ty0 : Nat → FieldType) (hty : ∀ k, k < N → parseFieldDescriptor (T k).2.2.1 = some (ty0 k)) (hnm : ∀ a, a < N → ∀ b, b < N → a ≠ b → (T a).2.1 ≠ (T b).2.1) (hc : classes[ci]? = some (C, T, N)) (hk : k < N) (hlink : Cond.fieldLink own index (T k).1 (T k).2.1 (T k).2.2.1 ∈ gw) (hfin : (T k).2.2.2 = false) (he : ws[q0]? = some (a, .inr (ci, fs))) (hn : narrow (ty0 k) v = v) (hf : fits (ty0 k) v = true) (hl : k < fs.length) (hdg : decode cc pc = .ok (.putfield index, 3))
    (kk : ∀ (H1 : Heap) (locs1 : List Loc), va_P D classes (ws.set q0 (a, .inr (ci, fs.set k v))) H1 → va_D A (ws.set q0 (a, .inr (ci, fs.set k v))) → va_S A H0 H1 locs1 → W p l e R s m args below meth c H1 locs1 cells slots Q (F0 m (pc + 3) ls rest)) : W p l e R s m args below meth c H locs cells slots Q (F0 m pc ls (v :: .ref a :: rest)) := by
  obtain ⟨hx, hb, hml, hown, hts, hK, hN⟩ := hB
  exact va_put hx hb hts hin ty0 hty hnm hown hK hP hD hS q0 he hc k hk (hts _ hlink) (fun _ h9 => h9) hfin (hty k hk) hn hf hl hdg kk
theorem x_putF (hB : Bd p s m args c cc own nL D cs) (hP : va_P D classes ws H) (hD : va_D A ws) (hS : va_S A H0 H locs) (hin2 : meth.name = "<init>") (q0 : Nat) {C : String} {T : u_T} {N ci index k : Nat} {fs : List Value} {v : Value} (hin : ∀ w ∈ u_ws C T N, w ∈ gw) (ty0 : Nat → FieldType) (hty : ∀ k, k < N → parseFieldDescriptor (T k).2.2.1 = some (ty0 k)) (hnm : ∀ a, a < N → ∀ b, b < N → a ≠ b → (T a).2.1 ≠ (T b).2.1) (hc : classes[ci]? = some (C, T, N)) (hk : k < N) (hlink : Cond.fieldLink own index (T k).1 (T k).2.1 (T k).2.2.1 ∈ gw) (hfin : (T k).2.2.2 = true) (hdecl : (T k).1 = own) (he : ws[q0]? = some (a, .inr (ci, fs))) (hn : narrow (ty0 k) v = v) (hf : fits (ty0 k) v = true) (hl : k < fs.length) (hdg : decode cc pc = .ok (.putfield index, 3))
    (kk : ∀ (H1 : Heap) (locs1 : List Loc), va_P D classes (ws.set q0 (a, .inr (ci, fs.set k v))) H1 → va_D A (ws.set q0 (a, .inr (ci, fs.set k v))) → va_S A H0 H1 locs1 → W p l e R s m args below meth c H1 locs1 cells slots Q (F0 m (pc + 3) ls rest)) : W p l e R s m args below meth c H locs cells slots Q (F0 m pc ls (v :: .ref a :: rest)) := by
  obtain ⟨hx, hb, hml, hown, hts, hK, hN⟩ := hB
  exact va_putF hx hb hts hin ty0 hty hnm hown hK hP hD hS q0 he hc k hk (hts _ hlink) (fun _ h9 => h9) hfin hin2 hdecl (hty k hk) hn hf hl hdg kk
theorem x_getN (hB : Bd p s m args c cc own nL D cs) (hP : va_P D classes ws H) (q0 : Nat) {C host : String} {T : u_T} {N ci index k : Nat} {fs : List Value} {v : Value} (hin : ∀ w ∈ u_ws C T N, w ∈ gw) (hc : classes[ci]? = some (C, T, N)) (hk : k < N) (hlink : va_Nw (.fieldLinkNest own index (T k).1 (T k).2.1 (T k).2.2.1 host) s) (he : ws[q0]? = some (a, .inr (ci, fs))) (hv : fs[k]? = some v) (hdg : decode cc pc = .ok (.getfield index, 3))
    (kk : W p l e R s m args below meth c H locs cells slots Q (F0 m (pc + 3) ls (v :: rest))) : W p l e R s m args below meth c H locs cells slots Q (F0 m pc ls (.ref a :: rest)) := by
  obtain ⟨hx, hb, hml, hown, hts, hK, hN⟩ := hB
  exact va_getN hx hb hts hin hown hK hP q0 he hc k hk (va_Nw.use rfl hlink) (fun _ h9 => h9) hv hdg kk
theorem x_putN (hB : Bd p s m args c cc own nL D cs) (hP : va_P D classes ws H) (hD : va_D A ws) (hS : va_S A H0 H locs) (q0 : Nat) {C host : String} {T : u_T} {N ci index k : Nat} {fs : List Value} {v : Value} (hin : ∀ w ∈ u_ws C T N, w ∈ gw) (ty0 : Nat → FieldType) (hty : ∀ k, k < N → parseFieldDescriptor (T k).2.2.1 = some (ty0 k)) (hnm : ∀ a, a < N → ∀ b, b < N → a ≠ b → (T a).2.1 ≠ (T b).2.1) (hc : classes[ci]? = some (C, T, N)) (hk : k < N) (hlink : va_Nw (.fieldLinkNest own index (T k).1 (T k).2.1 (T k).2.2.1 host) s) (hfin : (T k).2.2.2 = false) (he : ws[q0]? = some (a, .inr (ci, fs))) (hn : narrow (ty0 k) v = v) (hf : fits (ty0 k) v = true) (hl : k < fs.length) (hdg : decode cc pc = .ok (.putfield index, 3))
    (kk : ∀ (H1 : Heap) (locs1 : List Loc), va_P D classes (ws.set q0 (a, .inr (ci, fs.set k v))) H1 → va_D A (ws.set q0 (a, .inr (ci, fs.set k v))) → va_S A H0 H1 locs1 → W p l e R s m args below meth c H1 locs1 cells slots Q (F0 m (pc + 3) ls rest)) : W p l e R s m args below meth c H locs cells slots Q (F0 m pc ls (v :: .ref a :: rest)) := by
  obtain ⟨hx, hb, hml, hown, hts, hK, hN⟩ := hB
  exact va_putN hx hb hts hin ty0 hty hnm hown hK hP hD hS q0 he hc k hk (va_Nw.use rfl hlink) (fun _ h9 => h9) hfin (hty k hk) hn hf hl hdg kk
/-- ends -/
theorem r_iS {post : Int32 → Prop} {v : Int32} (hB : Bd p s m args c cc own nL D cs) (hr : meth.sig.returnType = some .int) (hlk : meth.locks = false) (hp : post v) (hdg : decode cc pc = .ok (.ireturn, 1)) : W p l e R s m args below meth c s.heap [] cells slots (MQ below (vp_Si post) args s cells slots (fun _ => False)) (F0 m pc ls [.int v]) :=
  W.iret hB.1 hB.2.1 hr (fun t ht hW => ⟨v, rfl, hp, ht⟩) (fun q h => by cases h) hdg hlk
theorem r_zS {post : Int32 → Prop} {v : Int32} {ty : FieldType} (hB : Bd p s m args c cc own nL D cs) (hr : meth.sig.returnType = some ty) (hlk : meth.locks = false) (hn : narrow ty (.int v) = .int v) (hp : post v) (hdg : decode cc pc = .ok (.ireturn, 1)) : W p l e R s m args below meth c s.heap [] cells slots (MQ below (vp_Si post) args s cells slots (fun _ => False)) (F0 m pc ls [.int v]) :=
  W.zret hB.1 hB.2.1 hr hn (fun t ht hW => ⟨v, rfl, hp, ht⟩) (fun q h => by cases h) hdg hlk
theorem r_lS {post : Int64 → Prop} {v : Int64} (hB : Bd p s m args c cc own nL D cs) (hr : meth.sig.returnType = some .long) (hlk : meth.locks = false) (hp : post v) (hdg : decode cc pc = .ok (.lreturn, 1)) : W p l e R s m args below meth c s.heap [] cells slots (MQ below (vp_Sl post) args s cells slots (fun _ => False)) (F0 m pc ls [.long v]) :=
  W.lret hB.1 hB.2.1 hr (fun t ht hW => ⟨v, rfl, hp, ht⟩) (fun q h => by cases h) hdg hlk
theorem r_qS {post : Option Nat → Prop} {v : Value} (o : Option Nat) (hv : v = va_rf o) {C : String} (hB : Bd p s m args c cc own nL D cs) (hr : meth.sig.returnType = some (.object C)) (hlk : meth.locks = false) (hp : post o) (hdg : decode cc pc = .ok (.areturn, 1)) : W p l e R s m args below meth c s.heap [] cells slots (MQ below (va_Sq post) args s cells slots (fun _ => False)) (F0 m pc ls [v]) := by
  subst hv
  exact W.aret hB.1 hB.2.1 hr (Or.inl ⟨_, rfl⟩) (va_rf_or o) (fun t ht hW => ⟨o, rfl, hp, ht⟩) (fun q h => by cases h) hdg hlk
theorem r_iQ {post : Int32 → va_W → Prop} {v : Int32} (hB : Bd p s m args c cc own nL D cs) (hr : meth.sig.returnType = some .int) (hlk : meth.locks = false) (hP : va_P D classes ws H) (hD : va_D A ws) (hS : va_S A s.heap H locs) (hp : post v ws) (hdg : decode cc pc = .ok (.ireturn, 1)) : W p l e R s m args below meth c H locs cells slots (MQ below (QI D A post) args s cells slots A) (F0 m pc ls [.int v]) :=
  W.iret hB.1 hB.2.1 hr (fun t ht hW => ⟨⟨v, ws, rfl, hp, by rw [ht]; exact hP, hD⟩, hS.F ht⟩) hS.2.2 hdg hlk
theorem r_zQ {post : Int32 → va_W → Prop} {v : Int32} {ty : FieldType} (hB : Bd p s m args c cc own nL D cs) (hr : meth.sig.returnType = some ty) (hlk : meth.locks = false) (hn : narrow ty (.int v) = .int v) (hP : va_P D classes ws H) (hD : va_D A ws) (hS : va_S A s.heap H locs) (hp : post v ws) (hdg : decode cc pc = .ok (.ireturn, 1)) : W p l e R s m args below meth c H locs cells slots (MQ below (QI D A post) args s cells slots A) (F0 m pc ls [.int v]) :=
  W.zret hB.1 hB.2.1 hr hn (fun t ht hW => ⟨⟨v, ws, rfl, hp, by rw [ht]; exact hP, hD⟩, hS.F ht⟩) hS.2.2 hdg hlk
theorem r_vQ {post : va_W → Prop} (hB : Bd p s m args c cc own nL D cs) (hr : meth.sig.returnType = none) (hlk : meth.locks = false) (hP : va_P D classes ws H) (hD : va_D A ws) (hS : va_S A s.heap H locs) (hp : post ws) (hdg : decode cc pc = .ok (.return_, 1)) : W p l e R s m args below meth c H locs cells slots (MQ below (QV D A post) args s cells slots A) (F0 m pc ls []) :=
  W.vret hB.1 hB.2.1 hr (fun t ht hW => ⟨⟨ws, rfl, hp, by rw [ht]; exact hP, hD⟩, hS.F ht⟩) hS.2.2 hdg hlk
/-- calls -/
theorem x_runV {y : MethodName} {bytes : ByteArray} {maxL mc ms n index : Nat} {ret : Option FieldType} {rm : Room} {Qc : Array Value → State → Outcome → State → Prop} {free : Addr → Prop} {C : String} {T : u_T} {N ci b : Nat} {fs As : List Value} (hB : Bd p s m args c cc own nL D cs) (hM : Met l y (Cond.code y bytes maxL ret :: gw) rm (va_Pc (.ref b :: As) (St D cs A ws)) Qc mc ms free) (hG : GoodIn gw (wsV own index C y (Cond.code y bytes maxL ret :: gw)))
    (hd : y.cls = C ∧ y.cls ≠ "java/lang/invoke/MethodHandle" ∧ y.cls ≠ "java/lang/invoke/VarHandle" ∧ (parseMethodDescriptor y.desc).map (fun d => d.parameters.length) = some n) (hrc : rm.cells = mc) (hrs : rm.slots = ms) (hR : rm.frames + 1 ≤ R.frames ∧ 8 + (maxL + 11) + rm.locals ≤ R.locals) (hP : va_P D classes ws H) (hD : va_D A ws) (q0 : Nat) (he : ws[q0]? = some (b, .inr (ci, fs))) (hc : classes[ci]? = some (C, T, N)) (hl : ls.size = nL) (hn : As.length = n) (hW : (rest.map fun v => v.category).sum ≤ 8) (hdg : decode cc pc = .ok (.invokevirtual index, 3)) (hf : cells + mc ≤ R.cells ∧ slots + ms ≤ R.slots) :
    va_Run p l e R s m args below meth c H locs cells slots mc ms (F0 m pc ls (As.reverse ++ .ref b :: rest)) rest (Qc (Value.ref b :: As).toArray) free := by
  obtain ⟨hx, hb, hml, hown, hts, hK, hN⟩ := hB
  exact va_runV ⟨hx, hb, hml, hown, hts⟩ hM (cwV n hts hG rfl hrc hrs hd hR) ⟨St.blind, va_recv hK hP hc he, fun U hU hW => ⟨rfl, by rw [hU]; exact hP, ⟨va_K.moved hW.alike hK, KN.warm hW hN⟩, hD⟩⟩ rfl hn hl rfl (lv_room hW) hdg hf
theorem x_cSi {y : MethodName} {bytes : ByteArray} {maxL n index : Nat} {ret : Option FieldType} {rm : Room} {post : Int32 → Prop} {C : String} {T : u_T} {N ci b : Nat} {fs As : List Value} (hB : Bd p s m args c cc own nL D cs) (hM : Met l y (Cond.code y bytes maxL ret :: gw) rm (va_Pc (.ref b :: As) (St D cs A ws)) (vp_Si post) 0 0 (fun _ => False)) (hG : GoodIn gw (wsV own index C y (Cond.code y bytes maxL ret :: gw)))
    (hd : y.cls = C ∧ y.cls ≠ "java/lang/invoke/MethodHandle" ∧ y.cls ≠ "java/lang/invoke/VarHandle" ∧ (parseMethodDescriptor y.desc).map (fun d => d.parameters.length) = some n) (hrc : rm.cells = 0) (hrs : rm.slots = 0) (hR : rm.frames + 1 ≤ R.frames ∧ 8 + (maxL + 11) + rm.locals ≤ R.locals) (hP : va_P D classes ws H) (hD : va_D A ws) (q0 : Nat) (he : ws[q0]? = some (b, .inr (ci, fs))) (hc : classes[ci]? = some (C, T, N)) (hl : ls.size = nL) (hn : As.length = n) (hW : (rest.map fun v => v.category).sum ≤ 8) (hdg : decode cc pc = .ok (.invokevirtual index, 3)) (hf : cells + 0 ≤ R.cells ∧ slots + 0 ≤ R.slots)
    (kk : ∀ r : Int32, post r → W p l e R s m args below meth c H locs cells slots Q (F0 m (pc + 3) ls (.int r :: rest))) : W p l e R s m args below meth c H locs cells slots Q (F0 m pc ls (As.reverse ++ .ref b :: rest)) :=
  vp_callSi (va_Run.run (x_runV hB hM hG hd hrc hrs hR hP hD q0 he hc hl hn hW hdg hf)) kk
theorem x_cSl {y : MethodName} {bytes : ByteArray} {maxL n index : Nat} {ret : Option FieldType} {rm : Room} {post : Int64 → Prop} {C : String} {T : u_T} {N ci b : Nat} {fs As : List Value} (hB : Bd p s m args c cc own nL D cs) (hM : Met l y (Cond.code y bytes maxL ret :: gw) rm (va_Pc (.ref b :: As) (St D cs A ws)) (vp_Sl post) 0 0 (fun _ => False)) (hG : GoodIn gw (wsV own index C y (Cond.code y bytes maxL ret :: gw)))
    (hd : y.cls = C ∧ y.cls ≠ "java/lang/invoke/MethodHandle" ∧ y.cls ≠ "java/lang/invoke/VarHandle" ∧ (parseMethodDescriptor y.desc).map (fun d => d.parameters.length) = some n) (hrc : rm.cells = 0) (hrs : rm.slots = 0) (hR : rm.frames + 1 ≤ R.frames ∧ 8 + (maxL + 11) + rm.locals ≤ R.locals) (hP : va_P D classes ws H) (hD : va_D A ws) (q0 : Nat) (he : ws[q0]? = some (b, .inr (ci, fs))) (hc : classes[ci]? = some (C, T, N)) (hl : ls.size = nL) (hn : As.length = n) (hW : (rest.map fun v => v.category).sum ≤ 8) (hdg : decode cc pc = .ok (.invokevirtual index, 3)) (hf : cells + 0 ≤ R.cells ∧ slots + 0 ≤ R.slots)
    (kk : ∀ r : Int64, post r → W p l e R s m args below meth c H locs cells slots Q (F0 m (pc + 3) ls (.long r :: rest))) : W p l e R s m args below meth c H locs cells slots Q (F0 m pc ls (As.reverse ++ .ref b :: rest)) :=
  vp_callSl (va_Run.run (x_runV hB hM hG hd hrc hrs hR hP hD q0 he hc hl hn hW hdg hf)) kk
theorem x_cSq {y : MethodName} {bytes : ByteArray} {maxL n index : Nat} {ret : Option FieldType} {rm : Room} {post : Option Nat → Prop} {C : String} {T : u_T} {N ci b : Nat} {fs As : List Value} (hB : Bd p s m args c cc own nL D cs) (hM : Met l y (Cond.code y bytes maxL ret :: gw) rm (va_Pc (.ref b :: As) (St D cs A ws)) (va_Sq post) 0 0 (fun _ => False)) (hG : GoodIn gw (wsV own index C y (Cond.code y bytes maxL ret :: gw)))
    (hd : y.cls = C ∧ y.cls ≠ "java/lang/invoke/MethodHandle" ∧ y.cls ≠ "java/lang/invoke/VarHandle" ∧ (parseMethodDescriptor y.desc).map (fun d => d.parameters.length) = some n) (hrc : rm.cells = 0) (hrs : rm.slots = 0) (hR : rm.frames + 1 ≤ R.frames ∧ 8 + (maxL + 11) + rm.locals ≤ R.locals) (hP : va_P D classes ws H) (hD : va_D A ws) (q0 : Nat) (he : ws[q0]? = some (b, .inr (ci, fs))) (hc : classes[ci]? = some (C, T, N)) (hl : ls.size = nL) (hn : As.length = n) (hW : (rest.map fun v => v.category).sum ≤ 8) (hdg : decode cc pc = .ok (.invokevirtual index, 3)) (hf : cells + 0 ≤ R.cells ∧ slots + 0 ≤ R.slots)
    (kk : ∀ r : Option Nat, post r → W p l e R s m args below meth c H locs cells slots Q (F0 m (pc + 3) ls (va_rf r :: rest))) : W p l e R s m args below meth c H locs cells slots Q (F0 m pc ls (As.reverse ++ .ref b :: rest)) :=
  va_csq (va_Run.run (x_runV hB hM hG hd hrc hrs hR hP hD q0 he hc hl hn hW hdg hf)) kk
theorem x_cQi {y : MethodName} {bytes : ByteArray} {maxL n index : Nat} {ret : Option FieldType} {rm : Room} {post : Int32 → va_W → Prop} {C : String} {T : u_T} {N ci b : Nat} {fs As : List Value} (hB : Bd p s m args c cc own nL D cs) (hM : Met l y (Cond.code y bytes maxL ret :: gw) rm (va_Pc (.ref b :: As) (St D cs A ws)) (QI D A post) 0 0 A) (hG : GoodIn gw (wsV own index C y (Cond.code y bytes maxL ret :: gw)))
    (hd : y.cls = C ∧ y.cls ≠ "java/lang/invoke/MethodHandle" ∧ y.cls ≠ "java/lang/invoke/VarHandle" ∧ (parseMethodDescriptor y.desc).map (fun d => d.parameters.length) = some n) (hrc : rm.cells = 0) (hrs : rm.slots = 0) (hR : rm.frames + 1 ≤ R.frames ∧ 8 + (maxL + 11) + rm.locals ≤ R.locals) (hP : va_P D classes ws H) (hD : va_D A ws) (hS : va_S A H0 H locs) (q0 : Nat) (he : ws[q0]? = some (b, .inr (ci, fs))) (hc : classes[ci]? = some (C, T, N)) (hl : ls.size = nL) (hn : As.length = n) (hW : (rest.map fun v => v.category).sum ≤ 8) (hdg : decode cc pc = .ok (.invokevirtual index, 3)) (hf : cells + 0 ≤ R.cells ∧ slots + 0 ≤ R.slots)
    (kk : ∀ (r : Int32) (w : va_W) (H1 : Heap) (locs1 : List Loc), post r w → va_P D classes w H1 → va_D A w → va_S A H0 H1 locs1 → W p l e R s m args below meth c H1 locs1 cells slots Q (F0 m (pc + 3) ls (.int r :: rest))) : W p l e R s m args below meth c H locs cells slots Q (F0 m pc ls (As.reverse ++ .ref b :: rest)) :=
  va_calli (x_runV hB hM hG hd hrc hrs hR hP hD q0 he hc hl hn hW hdg hf) hS (fun _ _ h => h) (fun _ h => h) (fun r w t H1 locs1 ht _ hp hb _ _ hS1 => kk r w H1 locs1 hp (by rw [← ht]; exact hb.1) hb.2 hS1)
theorem x_cQv {y : MethodName} {bytes : ByteArray} {maxL n index : Nat} {ret : Option FieldType} {rm : Room} {post : va_W → Prop} {C : String} {T : u_T} {N ci b : Nat} {fs As : List Value} (hB : Bd p s m args c cc own nL D cs) (hM : Met l y (Cond.code y bytes maxL ret :: gw) rm (va_Pc (.ref b :: As) (St D cs A ws)) (QV D A post) 0 0 A) (hG : GoodIn gw (wsV own index C y (Cond.code y bytes maxL ret :: gw)))
    (hd : y.cls = C ∧ y.cls ≠ "java/lang/invoke/MethodHandle" ∧ y.cls ≠ "java/lang/invoke/VarHandle" ∧ (parseMethodDescriptor y.desc).map (fun d => d.parameters.length) = some n) (hrc : rm.cells = 0) (hrs : rm.slots = 0) (hR : rm.frames + 1 ≤ R.frames ∧ 8 + (maxL + 11) + rm.locals ≤ R.locals) (hP : va_P D classes ws H) (hD : va_D A ws) (hS : va_S A H0 H locs) (q0 : Nat) (he : ws[q0]? = some (b, .inr (ci, fs))) (hc : classes[ci]? = some (C, T, N)) (hl : ls.size = nL) (hn : As.length = n) (hW : (rest.map fun v => v.category).sum ≤ 8) (hdg : decode cc pc = .ok (.invokevirtual index, 3)) (hf : cells + 0 ≤ R.cells ∧ slots + 0 ≤ R.slots)
    (kk : ∀ (w : va_W) (H1 : Heap) (locs1 : List Loc), post w → va_P D classes w H1 → va_D A w → va_S A H0 H1 locs1 → W p l e R s m args below meth c H1 locs1 cells slots Q (F0 m (pc + 3) ls rest)) : W p l e R s m args below meth c H locs cells slots Q (F0 m pc ls (As.reverse ++ .ref b :: rest)) :=
  va_callv (x_runV hB hM hG hd hrc hrs hR hP hD q0 he hc hl hn hW hdg hf) hS (fun _ _ h => h) (fun _ h => h) (fun w t H1 locs1 ht _ hp hb _ _ hS1 => kk w H1 locs1 hp (by rw [← ht]; exact hb.1) hb.2 hS1)
/-- the static one: sectorsOf -/
theorem x_cT {y : MethodName} {bytes : ByteArray} {maxL n index : Nat} {ret : Option FieldType} {rm : Room} {post : Int32 → Prop} {As : List Value} (hB : Bd p s m args c cc own nL D cs) (hM : Met l y (Cond.code y bytes maxL ret :: gw) rm (va_Pc As (St D cs A ws)) (vp_Si post) 0 0 (fun _ => False)) (hG : GoodIn gw (wsS own index y (Cond.code y bytes maxL ret :: gw)))
    (hd : y.cls = own ∧ y.cls ≠ "java/lang/invoke/MethodHandle" ∧ y.cls ≠ "java/lang/invoke/VarHandle" ∧ (parseMethodDescriptor y.desc).map (fun d => d.parameters.length) = some n) (hrc : rm.cells = 0) (hrs : rm.slots = 0) (hR : rm.frames + 1 ≤ R.frames ∧ 8 + (maxL + 11) + rm.locals ≤ R.locals) (hP : va_P D classes ws H) (hD : va_D A ws) (hl : ls.size = nL) (hn : As.length = n) (hW : (rest.map fun v => v.category).sum ≤ 8) (hdg : decode cc pc = .ok (.invokestatic index, 3)) (hf : cells + 0 ≤ R.cells ∧ slots + 0 ≤ R.slots)
    (kk : ∀ r : Int32, post r → W p l e R s m args below meth c H locs cells slots Q (F0 m (pc + 3) ls (.int r :: rest))) : W p l e R s m args below meth c H locs cells slots Q (F0 m pc ls (As.reverse ++ rest)) := by
  obtain ⟨hx, hb, hml, hown, hts, hK, hN⟩ := hB
  exact vp_callSi (va_Run.run (va_runS ⟨hx, hb, hml, hown, hts⟩ hM (cwS n hts hG rfl hrc hrs hd hR) ⟨St.blind, fun U hU hW => ⟨rfl, by rw [hU]; exact hP, ⟨va_K.moved hW.alike hK, KN.warm hW hN⟩, hD⟩⟩ rfl hn hl rfl (lv_room hW) hdg hf)) kk
theorem x_max (hB : Bd p s m args c cc own nL D cs) {index a b : Nat} (hlink : Cond.methodLink own index Lib.Math.max.name ∈ gw) (hl : ls.size = nL) (hfr : 1 ≤ R.frames) (hlo : (rest.map fun v => v.category).sum + 13 ≤ R.locals) (hc : cells ≤ R.cells) (hs : slots ≤ R.slots) (ha : a < 2 ^ 31) (hb2 : b < 2 ^ 31) (hdg : decode cc pc = .ok (.invokestatic index, 3))
    (kk : W p l e R s m args below meth c H locs cells slots Q (F0 m (pc + 3) ls (.int (nI (max a b)) :: rest))) : W p l e R s m args below meth c H locs cells slots Q (F0 m pc ls (.int (nI b) :: .int (nI a) :: rest)) := by
  obtain ⟨hx, hb, hml, hown, hts, hK, hN⟩ := hB
  refine va_mmax hx hb (hml.trans hl.symm) hown (hts _ hlink) (hts _ ms_max) (hts _ it_Math) (hts _ mc_max) hfr hlo hc hs hdg ?_
  refine tp_i ?_ kk
  by_cases h : a < b
  · rw [if_pos ((nI_ltI ha hb2).mpr h), Nat.max_eq_right (Nat.le_of_lt h)]
  · rw [if_neg (fun q => h ((nI_ltI ha hb2).mp q)), Nat.max_eq_left (Nat.le_of_not_lt h)]
theorem x_min (hB : Bd p s m args c cc own nL D cs) {index a b : Nat} (hlink : Cond.methodLink own index Lib.Math.min.name ∈ gw) (hl : ls.size = nL) (hfr : 1 ≤ R.frames) (hlo : (rest.map fun v => v.category).sum + 13 ≤ R.locals) (hc : cells ≤ R.cells) (hs : slots ≤ R.slots) (ha : a < 2 ^ 31) (hb2 : b < 2 ^ 31) (hdg : decode cc pc = .ok (.invokestatic index, 3))
    (kk : W p l e R s m args below meth c H locs cells slots Q (F0 m (pc + 3) ls (.int (nI (min a b)) :: rest))) : W p l e R s m args below meth c H locs cells slots Q (F0 m pc ls (.int (nI b) :: .int (nI a) :: rest)) := by
  obtain ⟨hx, hb, hml, hown, hts, hK, hN⟩ := hB
  refine va_mmin hx hb (hml.trans hl.symm) hown (hts _ hlink) (hts _ ms_min) (hts _ it_Math) (hts _ mc_min) hfr hlo hc hs hdg ?_
  refine tp_i ?_ kk
  by_cases h : b < a
  · rw [if_pos ((nI_ltI hb2 ha).mpr h), Nat.min_eq_right (Nat.le_of_lt h)]
  · rw [if_neg (fun q => h ((nI_ltI hb2 ha).mp q)), Nat.min_eq_left (Nat.le_of_not_lt h)]
end XRB
section XRC
variable {p : Program} {l : Launch} {e : Env} {R : Room} {s : State} {m : MethodId} {args : Array Value} {below : List Frame} {meth : Method} {c : Code} {H : Heap} {locs : List Loc} {cells slots : Nat} {Q : State → Prop}
variable {cc : ByteArray} {pc : Nat} {ls : Array Slot} {rest : List Value} {nL : Nat} {D : va_G} {cs : Nat → ClassId} {A : Nat → Prop} {a : Nat} {ws : va_W} {H0 : Heap}
theorem gf_K_9 (hB : Bd p s m args c cc "JournalDesk$Disk" nL D cs) (hP : va_P D classes ws H) (q0 : Nat) {fs : List Value} {v : Value} (he : ws[q0]? = some (a, .inr (1, fs))) (hv : fs[0]? = some v) (hdg : decode cc pc = .ok (.getfield 9, 3)) (kk : W p l e R s m args below meth c H locs cells slots Q (F0 m (pc + 3) ls (v :: rest))) : W p l e R s m args below meth c H locs cells slots Q (F0 m pc ls (.ref a :: rest)) := x_get (T := F_K) (k := 0) hB hP q0 in_K rfl (by decide) fl_K_9 he hv hdg kk
theorem pF_K_9 (hB : Bd p s m args c cc "JournalDesk$Disk" nL D cs) (hP : va_P D classes ws H) (hD : va_D A ws) (hS : va_S A H0 H locs) (hin2 : meth.name = "<init>") (q0 : Nat) {fs : List Value} {v : Value} (he : ws[q0]? = some (a, .inr (1, fs))) (hn : narrow (.array .byte) v = v) (hf : fits (.array .byte) v = true) (hl : 0 < fs.length) (hdg : decode cc pc = .ok (.putfield 9, 3)) (kk : ∀ (H1 : Heap) (locs1 : List Loc), va_P D classes (ws.set q0 (a, .inr (1, fs.set 0 v))) H1 → va_D A (ws.set q0 (a, .inr (1, fs.set 0 v))) → va_S A H0 H1 locs1 → W p l e R s m args below meth c H1 locs1 cells slots Q (F0 m (pc + 3) ls rest)) : W p l e R s m args below meth c H locs cells slots Q (F0 m pc ls (v :: .ref a :: rest)) := x_putF (T := F_K) (k := 0) hB hP hD hS hin2 q0 in_K t_K t_K_ok n_K rfl (by decide) fl_K_9 rfl rfl he hn hf hl hdg kk
theorem gf_K_15 (hB : Bd p s m args c cc "JournalDesk$Disk" nL D cs) (hP : va_P D classes ws H) (q0 : Nat) {fs : List Value} {v : Value} (he : ws[q0]? = some (a, .inr (1, fs))) (hv : fs[1]? = some v) (hdg : decode cc pc = .ok (.getfield 15, 3)) (kk : W p l e R s m args below meth c H locs cells slots Q (F0 m (pc + 3) ls (v :: rest))) : W p l e R s m args below meth c H locs cells slots Q (F0 m pc ls (.ref a :: rest)) := x_get (T := F_K) (k := 1) hB hP q0 in_K rfl (by decide) fl_K_15 he hv hdg kk
theorem pF_K_15 (hB : Bd p s m args c cc "JournalDesk$Disk" nL D cs) (hP : va_P D classes ws H) (hD : va_D A ws) (hS : va_S A H0 H locs) (hin2 : meth.name = "<init>") (q0 : Nat) {fs : List Value} {v : Value} (he : ws[q0]? = some (a, .inr (1, fs))) (hn : narrow (.array .boolean) v = v) (hf : fits (.array .boolean) v = true) (hl : 1 < fs.length) (hdg : decode cc pc = .ok (.putfield 15, 3)) (kk : ∀ (H1 : Heap) (locs1 : List Loc), va_P D classes (ws.set q0 (a, .inr (1, fs.set 1 v))) H1 → va_D A (ws.set q0 (a, .inr (1, fs.set 1 v))) → va_S A H0 H1 locs1 → W p l e R s m args below meth c H1 locs1 cells slots Q (F0 m (pc + 3) ls rest)) : W p l e R s m args below meth c H locs cells slots Q (F0 m pc ls (v :: .ref a :: rest)) := x_putF (T := F_K) (k := 1) hB hP hD hS hin2 q0 in_K t_K t_K_ok n_K rfl (by decide) fl_K_15 rfl rfl he hn hf hl hdg kk
theorem gf_D_61 (hB : Bd p s m args c cc "JournalDesk" nL D cs) (hP : va_P D classes ws H) (q0 : Nat) {fs : List Value} {v : Value} (he : ws[q0]? = some (a, .inr (1, fs))) (hv : fs[1]? = some v) (hdg : decode cc pc = .ok (.getfield 61, 3)) (kk : W p l e R s m args below meth c H locs cells slots Q (F0 m (pc + 3) ls (v :: rest))) : W p l e R s m args below meth c H locs cells slots Q (F0 m pc ls (.ref a :: rest)) := x_getN (host := "JournalDesk") (T := F_K) (k := 1) hB hP q0 in_K rfl (by decide) (hB.2.2.2.2.2.2.2.1) he hv hdg kk
theorem gf_D_68 (hB : Bd p s m args c cc "JournalDesk" nL D cs) (hP : va_P D classes ws H) (q0 : Nat) {fs : List Value} {v : Value} (he : ws[q0]? = some (a, .inr (2, fs))) (hv : fs[0]? = some v) (hdg : decode cc pc = .ok (.getfield 68, 3)) (kk : W p l e R s m args below meth c H locs cells slots Q (F0 m (pc + 3) ls (v :: rest))) : W p l e R s m args below meth c H locs cells slots Q (F0 m pc ls (.ref a :: rest)) := x_getN (host := "JournalDesk") (T := F_E) (k := 0) hB hP q0 in_E rfl (by decide) (hB.2.2.2.2.2.2.2.2.2.1) he hv hdg kk
theorem pf_D_68 (hB : Bd p s m args c cc "JournalDesk" nL D cs) (hP : va_P D classes ws H) (hD : va_D A ws) (hS : va_S A H0 H locs) (q0 : Nat) {fs : List Value} {v : Int32} (he : ws[q0]? = some (a, .inr (2, fs))) (hl : 0 < fs.length) (hdg : decode cc pc = .ok (.putfield 68, 3)) (kk : ∀ (H1 : Heap) (locs1 : List Loc), va_P D classes (ws.set q0 (a, .inr (2, fs.set 0 (.int v)))) H1 → va_D A (ws.set q0 (a, .inr (2, fs.set 0 (.int v)))) → va_S A H0 H1 locs1 → W p l e R s m args below meth c H1 locs1 cells slots Q (F0 m (pc + 3) ls rest)) : W p l e R s m args below meth c H locs cells slots Q (F0 m pc ls (.int v :: .ref a :: rest)) := x_putN (host := "JournalDesk") (T := F_E) (k := 0) hB hP hD hS q0 in_E t_E t_E_ok n_E rfl (by decide) (hB.2.2.2.2.2.2.2.2.2.1) rfl he rfl rfl hl hdg kk
theorem gf_E_9 (hB : Bd p s m args c cc "JournalDesk$Entry" nL D cs) (hP : va_P D classes ws H) (q0 : Nat) {fs : List Value} {v : Value} (he : ws[q0]? = some (a, .inr (2, fs))) (hv : fs[1]? = some v) (hdg : decode cc pc = .ok (.getfield 9, 3)) (kk : W p l e R s m args below meth c H locs cells slots Q (F0 m (pc + 3) ls (v :: rest))) : W p l e R s m args below meth c H locs cells slots Q (F0 m pc ls (.ref a :: rest)) := x_get (T := F_E) (k := 1) hB hP q0 in_E rfl (by decide) fl_E_9 he hv hdg kk
theorem pf_E_9 (hB : Bd p s m args c cc "JournalDesk$Entry" nL D cs) (hP : va_P D classes ws H) (hD : va_D A ws) (hS : va_S A H0 H locs) (q0 : Nat) {fs : List Value} {v : Int32} (he : ws[q0]? = some (a, .inr (2, fs))) (hl : 1 < fs.length) (hdg : decode cc pc = .ok (.putfield 9, 3)) (kk : ∀ (H1 : Heap) (locs1 : List Loc), va_P D classes (ws.set q0 (a, .inr (2, fs.set 1 (.int v)))) H1 → va_D A (ws.set q0 (a, .inr (2, fs.set 1 (.int v)))) → va_S A H0 H1 locs1 → W p l e R s m args below meth c H1 locs1 cells slots Q (F0 m (pc + 3) ls rest)) : W p l e R s m args below meth c H locs cells slots Q (F0 m pc ls (.int v :: .ref a :: rest)) := x_put (T := F_E) (k := 1) hB hP hD hS q0 in_E t_E t_E_ok n_E rfl (by decide) fl_E_9 rfl he rfl rfl hl hdg kk
theorem gf_D_71 (hB : Bd p s m args c cc "JournalDesk" nL D cs) (hP : va_P D classes ws H) (q0 : Nat) {fs : List Value} {v : Value} (he : ws[q0]? = some (a, .inr (2, fs))) (hv : fs[1]? = some v) (hdg : decode cc pc = .ok (.getfield 71, 3)) (kk : W p l e R s m args below meth c H locs cells slots Q (F0 m (pc + 3) ls (v :: rest))) : W p l e R s m args below meth c H locs cells slots Q (F0 m pc ls (.ref a :: rest)) := x_getN (host := "JournalDesk") (T := F_E) (k := 1) hB hP q0 in_E rfl (by decide) (hB.2.2.2.2.2.2.2.2.2.2.1) he hv hdg kk
theorem pf_D_71 (hB : Bd p s m args c cc "JournalDesk" nL D cs) (hP : va_P D classes ws H) (hD : va_D A ws) (hS : va_S A H0 H locs) (q0 : Nat) {fs : List Value} {v : Int32} (he : ws[q0]? = some (a, .inr (2, fs))) (hl : 1 < fs.length) (hdg : decode cc pc = .ok (.putfield 71, 3)) (kk : ∀ (H1 : Heap) (locs1 : List Loc), va_P D classes (ws.set q0 (a, .inr (2, fs.set 1 (.int v)))) H1 → va_D A (ws.set q0 (a, .inr (2, fs.set 1 (.int v)))) → va_S A H0 H1 locs1 → W p l e R s m args below meth c H1 locs1 cells slots Q (F0 m (pc + 3) ls rest)) : W p l e R s m args below meth c H locs cells slots Q (F0 m pc ls (.int v :: .ref a :: rest)) := x_putN (host := "JournalDesk") (T := F_E) (k := 1) hB hP hD hS q0 in_E t_E t_E_ok n_E rfl (by decide) (hB.2.2.2.2.2.2.2.2.2.2.1) rfl he rfl rfl hl hdg kk
theorem gf_D_48 (hB : Bd p s m args c cc "JournalDesk" nL D cs) (hP : va_P D classes ws H) (q0 : Nat) {fs : List Value} {v : Value} (he : ws[q0]? = some (a, .inr (2, fs))) (hv : fs[2]? = some v) (hdg : decode cc pc = .ok (.getfield 48, 3)) (kk : W p l e R s m args below meth c H locs cells slots Q (F0 m (pc + 3) ls (v :: rest))) : W p l e R s m args below meth c H locs cells slots Q (F0 m pc ls (.ref a :: rest)) := x_getN (host := "JournalDesk") (T := F_E) (k := 2) hB hP q0 in_E rfl (by decide) (hB.2.2.2.2.2.2.2.2.2.2.2.1) he hv hdg kk
theorem pf_D_48 (hB : Bd p s m args c cc "JournalDesk" nL D cs) (hP : va_P D classes ws H) (hD : va_D A ws) (hS : va_S A H0 H locs) (q0 : Nat) {fs : List Value} {v : Int32} (he : ws[q0]? = some (a, .inr (2, fs))) (hl : 2 < fs.length) (hdg : decode cc pc = .ok (.putfield 48, 3)) (kk : ∀ (H1 : Heap) (locs1 : List Loc), va_P D classes (ws.set q0 (a, .inr (2, fs.set 2 (.int v)))) H1 → va_D A (ws.set q0 (a, .inr (2, fs.set 2 (.int v)))) → va_S A H0 H1 locs1 → W p l e R s m args below meth c H1 locs1 cells slots Q (F0 m (pc + 3) ls rest)) : W p l e R s m args below meth c H locs cells slots Q (F0 m pc ls (.int v :: .ref a :: rest)) := x_putN (host := "JournalDesk") (T := F_E) (k := 2) hB hP hD hS q0 in_E t_E t_E_ok n_E rfl (by decide) (hB.2.2.2.2.2.2.2.2.2.2.2.1) rfl he rfl rfl hl hdg kk
theorem gf_D_10 (hB : Bd p s m args c cc "JournalDesk" nL D cs) (hP : va_P D classes ws H) (q0 : Nat) {fs : List Value} {v : Value} (he : ws[q0]? = some (a, .inr (0, fs))) (hv : fs[0]? = some v) (hdg : decode cc pc = .ok (.getfield 10, 3)) (kk : W p l e R s m args below meth c H locs cells slots Q (F0 m (pc + 3) ls (v :: rest))) : W p l e R s m args below meth c H locs cells slots Q (F0 m pc ls (.ref a :: rest)) := x_get (T := F_D) (k := 0) hB hP q0 in_D rfl (by decide) fl_D_10 he hv hdg kk
theorem pF_D_10 (hB : Bd p s m args c cc "JournalDesk" nL D cs) (hP : va_P D classes ws H) (hD : va_D A ws) (hS : va_S A H0 H locs) (hin2 : meth.name = "<init>") (q0 : Nat) {fs : List Value} {v : Value} (he : ws[q0]? = some (a, .inr (0, fs))) (hn : narrow (.object "JournalDesk$Disk") v = v) (hf : fits (.object "JournalDesk$Disk") v = true) (hl : 0 < fs.length) (hdg : decode cc pc = .ok (.putfield 10, 3)) (kk : ∀ (H1 : Heap) (locs1 : List Loc), va_P D classes (ws.set q0 (a, .inr (0, fs.set 0 v))) H1 → va_D A (ws.set q0 (a, .inr (0, fs.set 0 v))) → va_S A H0 H1 locs1 → W p l e R s m args below meth c H1 locs1 cells slots Q (F0 m (pc + 3) ls rest)) : W p l e R s m args below meth c H locs cells slots Q (F0 m pc ls (v :: .ref a :: rest)) := x_putF (T := F_D) (k := 0) hB hP hD hS hin2 q0 in_D t_D t_D_ok n_D rfl (by decide) fl_D_10 rfl rfl he hn hf hl hdg kk
theorem gf_D_16 (hB : Bd p s m args c cc "JournalDesk" nL D cs) (hP : va_P D classes ws H) (q0 : Nat) {fs : List Value} {v : Value} (he : ws[q0]? = some (a, .inr (0, fs))) (hv : fs[1]? = some v) (hdg : decode cc pc = .ok (.getfield 16, 3)) (kk : W p l e R s m args below meth c H locs cells slots Q (F0 m (pc + 3) ls (v :: rest))) : W p l e R s m args below meth c H locs cells slots Q (F0 m pc ls (.ref a :: rest)) := x_get (T := F_D) (k := 1) hB hP q0 in_D rfl (by decide) fl_D_16 he hv hdg kk
theorem pF_D_16 (hB : Bd p s m args c cc "JournalDesk" nL D cs) (hP : va_P D classes ws H) (hD : va_D A ws) (hS : va_S A H0 H locs) (hin2 : meth.name = "<init>") (q0 : Nat) {fs : List Value} {v : Value} (he : ws[q0]? = some (a, .inr (0, fs))) (hn : narrow (.array .byte) v = v) (hf : fits (.array .byte) v = true) (hl : 1 < fs.length) (hdg : decode cc pc = .ok (.putfield 16, 3)) (kk : ∀ (H1 : Heap) (locs1 : List Loc), va_P D classes (ws.set q0 (a, .inr (0, fs.set 1 v))) H1 → va_D A (ws.set q0 (a, .inr (0, fs.set 1 v))) → va_S A H0 H1 locs1 → W p l e R s m args below meth c H1 locs1 cells slots Q (F0 m (pc + 3) ls rest)) : W p l e R s m args below meth c H locs cells slots Q (F0 m pc ls (v :: .ref a :: rest)) := x_putF (T := F_D) (k := 1) hB hP hD hS hin2 q0 in_D t_D t_D_ok n_D rfl (by decide) fl_D_16 rfl rfl he hn hf hl hdg kk
theorem gf_D_35 (hB : Bd p s m args c cc "JournalDesk" nL D cs) (hP : va_P D classes ws H) (q0 : Nat) {fs : List Value} {v : Value} (he : ws[q0]? = some (a, .inr (0, fs))) (hv : fs[2]? = some v) (hdg : decode cc pc = .ok (.getfield 35, 3)) (kk : W p l e R s m args below meth c H locs cells slots Q (F0 m (pc + 3) ls (v :: rest))) : W p l e R s m args below meth c H locs cells slots Q (F0 m pc ls (.ref a :: rest)) := x_get (T := F_D) (k := 2) hB hP q0 in_D rfl (by decide) fl_D_35 he hv hdg kk
theorem pf_D_35 (hB : Bd p s m args c cc "JournalDesk" nL D cs) (hP : va_P D classes ws H) (hD : va_D A ws) (hS : va_S A H0 H locs) (q0 : Nat) {fs : List Value} {v : Int32} (he : ws[q0]? = some (a, .inr (0, fs))) (hl : 2 < fs.length) (hdg : decode cc pc = .ok (.putfield 35, 3)) (kk : ∀ (H1 : Heap) (locs1 : List Loc), va_P D classes (ws.set q0 (a, .inr (0, fs.set 2 (.int v)))) H1 → va_D A (ws.set q0 (a, .inr (0, fs.set 2 (.int v)))) → va_S A H0 H1 locs1 → W p l e R s m args below meth c H1 locs1 cells slots Q (F0 m (pc + 3) ls rest)) : W p l e R s m args below meth c H locs cells slots Q (F0 m pc ls (.int v :: .ref a :: rest)) := x_put (T := F_D) (k := 2) hB hP hD hS q0 in_D t_D t_D_ok n_D rfl (by decide) fl_D_35 rfl he rfl rfl hl hdg kk
theorem gf_D_20 (hB : Bd p s m args c cc "JournalDesk" nL D cs) (hP : va_P D classes ws H) (q0 : Nat) {fs : List Value} {v : Value} (he : ws[q0]? = some (a, .inr (0, fs))) (hv : fs[3]? = some v) (hdg : decode cc pc = .ok (.getfield 20, 3)) (kk : W p l e R s m args below meth c H locs cells slots Q (F0 m (pc + 3) ls (v :: rest))) : W p l e R s m args below meth c H locs cells slots Q (F0 m pc ls (.ref a :: rest)) := x_get (T := F_D) (k := 3) hB hP q0 in_D rfl (by decide) fl_D_20 he hv hdg kk
theorem pf_D_20 (hB : Bd p s m args c cc "JournalDesk" nL D cs) (hP : va_P D classes ws H) (hD : va_D A ws) (hS : va_S A H0 H locs) (q0 : Nat) {fs : List Value} {v : Int32} (he : ws[q0]? = some (a, .inr (0, fs))) (hl : 3 < fs.length) (hdg : decode cc pc = .ok (.putfield 20, 3)) (kk : ∀ (H1 : Heap) (locs1 : List Loc), va_P D classes (ws.set q0 (a, .inr (0, fs.set 3 (.int v)))) H1 → va_D A (ws.set q0 (a, .inr (0, fs.set 3 (.int v)))) → va_S A H0 H1 locs1 → W p l e R s m args below meth c H1 locs1 cells slots Q (F0 m (pc + 3) ls rest)) : W p l e R s m args below meth c H locs cells slots Q (F0 m pc ls (.int v :: .ref a :: rest)) := x_put (T := F_D) (k := 3) hB hP hD hS q0 in_D t_D t_D_ok n_D rfl (by decide) fl_D_20 rfl he rfl rfl hl hdg kk
theorem gf_D_24 (hB : Bd p s m args c cc "JournalDesk" nL D cs) (hP : va_P D classes ws H) (q0 : Nat) {fs : List Value} {v : Value} (he : ws[q0]? = some (a, .inr (0, fs))) (hv : fs[4]? = some v) (hdg : decode cc pc = .ok (.getfield 24, 3)) (kk : W p l e R s m args below meth c H locs cells slots Q (F0 m (pc + 3) ls (v :: rest))) : W p l e R s m args below meth c H locs cells slots Q (F0 m pc ls (.ref a :: rest)) := x_get (T := F_D) (k := 4) hB hP q0 in_D rfl (by decide) fl_D_24 he hv hdg kk
theorem pf_D_24 (hB : Bd p s m args c cc "JournalDesk" nL D cs) (hP : va_P D classes ws H) (hD : va_D A ws) (hS : va_S A H0 H locs) (q0 : Nat) {fs : List Value} {v : Value} (he : ws[q0]? = some (a, .inr (0, fs))) (hn : narrow .boolean v = v) (hf : fits .boolean v = true) (hl : 4 < fs.length) (hdg : decode cc pc = .ok (.putfield 24, 3)) (kk : ∀ (H1 : Heap) (locs1 : List Loc), va_P D classes (ws.set q0 (a, .inr (0, fs.set 4 v))) H1 → va_D A (ws.set q0 (a, .inr (0, fs.set 4 v))) → va_S A H0 H1 locs1 → W p l e R s m args below meth c H1 locs1 cells slots Q (F0 m (pc + 3) ls rest)) : W p l e R s m args below meth c H locs cells slots Q (F0 m pc ls (v :: .ref a :: rest)) := x_put (T := F_D) (k := 4) hB hP hD hS q0 in_D t_D t_D_ok n_D rfl (by decide) fl_D_24 rfl he hn hf hl hdg kk
theorem gf_D_30 (hB : Bd p s m args c cc "JournalDesk" nL D cs) (hP : va_P D classes ws H) (q0 : Nat) {fs : List Value} {v : Value} (he : ws[q0]? = some (a, .inr (0, fs))) (hv : fs[5]? = some v) (hdg : decode cc pc = .ok (.getfield 30, 3)) (kk : W p l e R s m args below meth c H locs cells slots Q (F0 m (pc + 3) ls (v :: rest))) : W p l e R s m args below meth c H locs cells slots Q (F0 m pc ls (.ref a :: rest)) := x_get (T := F_D) (k := 5) hB hP q0 in_D rfl (by decide) fl_D_30 he hv hdg kk
theorem pF_D_30 (hB : Bd p s m args c cc "JournalDesk" nL D cs) (hP : va_P D classes ws H) (hD : va_D A ws) (hS : va_S A H0 H locs) (hin2 : meth.name = "<init>") (q0 : Nat) {fs : List Value} {v : Value} (he : ws[q0]? = some (a, .inr (0, fs))) (hn : narrow (.array (.object "JournalDesk$Entry")) v = v) (hf : fits (.array (.object "JournalDesk$Entry")) v = true) (hl : 5 < fs.length) (hdg : decode cc pc = .ok (.putfield 30, 3)) (kk : ∀ (H1 : Heap) (locs1 : List Loc), va_P D classes (ws.set q0 (a, .inr (0, fs.set 5 v))) H1 → va_D A (ws.set q0 (a, .inr (0, fs.set 5 v))) → va_S A H0 H1 locs1 → W p l e R s m args below meth c H1 locs1 cells slots Q (F0 m (pc + 3) ls rest)) : W p l e R s m args below meth c H locs cells slots Q (F0 m pc ls (v :: .ref a :: rest)) := x_putF (T := F_D) (k := 5) hB hP hD hS hin2 q0 in_D t_D t_D_ok n_D rfl (by decide) fl_D_30 rfl rfl he hn hf hl hdg kk
theorem gf_D_38 (hB : Bd p s m args c cc "JournalDesk" nL D cs) (hP : va_P D classes ws H) (q0 : Nat) {fs : List Value} {v : Value} (he : ws[q0]? = some (a, .inr (0, fs))) (hv : fs[6]? = some v) (hdg : decode cc pc = .ok (.getfield 38, 3)) (kk : W p l e R s m args below meth c H locs cells slots Q (F0 m (pc + 3) ls (v :: rest))) : W p l e R s m args below meth c H locs cells slots Q (F0 m pc ls (.ref a :: rest)) := x_get (T := F_D) (k := 6) hB hP q0 in_D rfl (by decide) fl_D_38 he hv hdg kk
theorem pf_D_38 (hB : Bd p s m args c cc "JournalDesk" nL D cs) (hP : va_P D classes ws H) (hD : va_D A ws) (hS : va_S A H0 H locs) (q0 : Nat) {fs : List Value} {v : Int32} (he : ws[q0]? = some (a, .inr (0, fs))) (hl : 6 < fs.length) (hdg : decode cc pc = .ok (.putfield 38, 3)) (kk : ∀ (H1 : Heap) (locs1 : List Loc), va_P D classes (ws.set q0 (a, .inr (0, fs.set 6 (.int v)))) H1 → va_D A (ws.set q0 (a, .inr (0, fs.set 6 (.int v)))) → va_S A H0 H1 locs1 → W p l e R s m args below meth c H1 locs1 cells slots Q (F0 m (pc + 3) ls rest)) : W p l e R s m args below meth c H locs cells slots Q (F0 m pc ls (.int v :: .ref a :: rest)) := x_put (T := F_D) (k := 6) hB hP hD hS q0 in_D t_D t_D_ok n_D rfl (by decide) fl_D_38 rfl he rfl rfl hl hdg kk
theorem gf_D_41 (hB : Bd p s m args c cc "JournalDesk" nL D cs) (hP : va_P D classes ws H) (q0 : Nat) {fs : List Value} {v : Value} (he : ws[q0]? = some (a, .inr (0, fs))) (hv : fs[7]? = some v) (hdg : decode cc pc = .ok (.getfield 41, 3)) (kk : W p l e R s m args below meth c H locs cells slots Q (F0 m (pc + 3) ls (v :: rest))) : W p l e R s m args below meth c H locs cells slots Q (F0 m pc ls (.ref a :: rest)) := x_get (T := F_D) (k := 7) hB hP q0 in_D rfl (by decide) fl_D_41 he hv hdg kk
theorem pf_D_41 (hB : Bd p s m args c cc "JournalDesk" nL D cs) (hP : va_P D classes ws H) (hD : va_D A ws) (hS : va_S A H0 H locs) (q0 : Nat) {fs : List Value} {v : Int32} (he : ws[q0]? = some (a, .inr (0, fs))) (hl : 7 < fs.length) (hdg : decode cc pc = .ok (.putfield 41, 3)) (kk : ∀ (H1 : Heap) (locs1 : List Loc), va_P D classes (ws.set q0 (a, .inr (0, fs.set 7 (.int v)))) H1 → va_D A (ws.set q0 (a, .inr (0, fs.set 7 (.int v)))) → va_S A H0 H1 locs1 → W p l e R s m args below meth c H1 locs1 cells slots Q (F0 m (pc + 3) ls rest)) : W p l e R s m args below meth c H locs cells slots Q (F0 m pc ls (.int v :: .ref a :: rest)) := x_put (T := F_D) (k := 7) hB hP hD hS q0 in_D t_D t_D_ok n_D rfl (by decide) fl_D_41 rfl he rfl rfl hl hdg kk
theorem gf_D_65 (hB : Bd p s m args c cc "JournalDesk" nL D cs) (hP : va_P D classes ws H) (q0 : Nat) {fs : List Value} {v : Value} (he : ws[q0]? = some (a, .inr (0, fs))) (hv : fs[8]? = some v) (hdg : decode cc pc = .ok (.getfield 65, 3)) (kk : W p l e R s m args below meth c H locs cells slots Q (F0 m (pc + 3) ls (v :: rest))) : W p l e R s m args below meth c H locs cells slots Q (F0 m pc ls (.ref a :: rest)) := x_get (T := F_D) (k := 8) hB hP q0 in_D rfl (by decide) fl_D_65 he hv hdg kk
theorem pf_D_65 (hB : Bd p s m args c cc "JournalDesk" nL D cs) (hP : va_P D classes ws H) (hD : va_D A ws) (hS : va_S A H0 H locs) (q0 : Nat) {fs : List Value} {v : Int32} (he : ws[q0]? = some (a, .inr (0, fs))) (hl : 8 < fs.length) (hdg : decode cc pc = .ok (.putfield 65, 3)) (kk : ∀ (H1 : Heap) (locs1 : List Loc), va_P D classes (ws.set q0 (a, .inr (0, fs.set 8 (.int v)))) H1 → va_D A (ws.set q0 (a, .inr (0, fs.set 8 (.int v)))) → va_S A H0 H1 locs1 → W p l e R s m args below meth c H1 locs1 cells slots Q (F0 m (pc + 3) ls rest)) : W p l e R s m args below meth c H locs cells slots Q (F0 m pc ls (.int v :: .ref a :: rest)) := x_put (T := F_D) (k := 8) hB hP hD hS q0 in_D t_D t_D_ok n_D rfl (by decide) fl_D_65 rfl he rfl rfl hl hdg kk
theorem gf_D_58 (hB : Bd p s m args c cc "JournalDesk" nL D cs) (hP : va_P D classes ws H) (q0 : Nat) {fs : List Value} {v : Value} (he : ws[q0]? = some (a, .inr (0, fs))) (hv : fs[9]? = some v) (hdg : decode cc pc = .ok (.getfield 58, 3)) (kk : W p l e R s m args below meth c H locs cells slots Q (F0 m (pc + 3) ls (v :: rest))) : W p l e R s m args below meth c H locs cells slots Q (F0 m pc ls (.ref a :: rest)) := x_get (T := F_D) (k := 9) hB hP q0 in_D rfl (by decide) fl_D_58 he hv hdg kk
theorem pf_D_58 (hB : Bd p s m args c cc "JournalDesk" nL D cs) (hP : va_P D classes ws H) (hD : va_D A ws) (hS : va_S A H0 H locs) (q0 : Nat) {fs : List Value} {v : Int32} (he : ws[q0]? = some (a, .inr (0, fs))) (hl : 9 < fs.length) (hdg : decode cc pc = .ok (.putfield 58, 3)) (kk : ∀ (H1 : Heap) (locs1 : List Loc), va_P D classes (ws.set q0 (a, .inr (0, fs.set 9 (.int v)))) H1 → va_D A (ws.set q0 (a, .inr (0, fs.set 9 (.int v)))) → va_S A H0 H1 locs1 → W p l e R s m args below meth c H1 locs1 cells slots Q (F0 m (pc + 3) ls rest)) : W p l e R s m args below meth c H locs cells slots Q (F0 m pc ls (.int v :: .ref a :: rest)) := x_put (T := F_D) (k := 9) hB hP hD hS q0 in_D t_D t_D_ok n_D rfl (by decide) fl_D_58 rfl he rfl rfl hl hdg kk
theorem gf_M_7 (hB : Bd p s m args c cc "JournalDeskModel" nL D cs) (hP : va_P D classes ws H) (q0 : Nat) {fs : List Value} {v : Value} (he : ws[q0]? = some (a, .inr (3, fs))) (hv : fs[0]? = some v) (hdg : decode cc pc = .ok (.getfield 7, 3)) (kk : W p l e R s m args below meth c H locs cells slots Q (F0 m (pc + 3) ls (v :: rest))) : W p l e R s m args below meth c H locs cells slots Q (F0 m pc ls (.ref a :: rest)) := x_get (T := F_M) (k := 0) hB hP q0 in_M rfl (by decide) fl_M_7 he hv hdg kk
theorem pF_M_7 (hB : Bd p s m args c cc "JournalDeskModel" nL D cs) (hP : va_P D classes ws H) (hD : va_D A ws) (hS : va_S A H0 H locs) (hin2 : meth.name = "<init>") (q0 : Nat) {fs : List Value} {v : Value} (he : ws[q0]? = some (a, .inr (3, fs))) (hn : narrow (.array .int) v = v) (hf : fits (.array .int) v = true) (hl : 0 < fs.length) (hdg : decode cc pc = .ok (.putfield 7, 3)) (kk : ∀ (H1 : Heap) (locs1 : List Loc), va_P D classes (ws.set q0 (a, .inr (3, fs.set 0 v))) H1 → va_D A (ws.set q0 (a, .inr (3, fs.set 0 v))) → va_S A H0 H1 locs1 → W p l e R s m args below meth c H1 locs1 cells slots Q (F0 m (pc + 3) ls rest)) : W p l e R s m args below meth c H locs cells slots Q (F0 m pc ls (v :: .ref a :: rest)) := x_putF (T := F_M) (k := 0) hB hP hD hS hin2 q0 in_M t_M t_M_ok n_M rfl (by decide) fl_M_7 rfl rfl he hn hf hl hdg kk
theorem gf_M_30 (hB : Bd p s m args c cc "JournalDeskModel" nL D cs) (hP : va_P D classes ws H) (q0 : Nat) {fs : List Value} {v : Value} (he : ws[q0]? = some (a, .inr (3, fs))) (hv : fs[1]? = some v) (hdg : decode cc pc = .ok (.getfield 30, 3)) (kk : W p l e R s m args below meth c H locs cells slots Q (F0 m (pc + 3) ls (v :: rest))) : W p l e R s m args below meth c H locs cells slots Q (F0 m pc ls (.ref a :: rest)) := x_get (T := F_M) (k := 1) hB hP q0 in_M rfl (by decide) fl_M_30 he hv hdg kk
theorem pf_M_30 (hB : Bd p s m args c cc "JournalDeskModel" nL D cs) (hP : va_P D classes ws H) (hD : va_D A ws) (hS : va_S A H0 H locs) (q0 : Nat) {fs : List Value} {v : Int32} (he : ws[q0]? = some (a, .inr (3, fs))) (hl : 1 < fs.length) (hdg : decode cc pc = .ok (.putfield 30, 3)) (kk : ∀ (H1 : Heap) (locs1 : List Loc), va_P D classes (ws.set q0 (a, .inr (3, fs.set 1 (.int v)))) H1 → va_D A (ws.set q0 (a, .inr (3, fs.set 1 (.int v)))) → va_S A H0 H1 locs1 → W p l e R s m args below meth c H1 locs1 cells slots Q (F0 m (pc + 3) ls rest)) : W p l e R s m args below meth c H locs cells slots Q (F0 m pc ls (.int v :: .ref a :: rest)) := x_put (T := F_M) (k := 1) hB hP hD hS q0 in_M t_M t_M_ok n_M rfl (by decide) fl_M_30 rfl he rfl rfl hl hdg kk
theorem gf_M_33 (hB : Bd p s m args c cc "JournalDeskModel" nL D cs) (hP : va_P D classes ws H) (q0 : Nat) {fs : List Value} {v : Value} (he : ws[q0]? = some (a, .inr (3, fs))) (hv : fs[2]? = some v) (hdg : decode cc pc = .ok (.getfield 33, 3)) (kk : W p l e R s m args below meth c H locs cells slots Q (F0 m (pc + 3) ls (v :: rest))) : W p l e R s m args below meth c H locs cells slots Q (F0 m pc ls (.ref a :: rest)) := x_get (T := F_M) (k := 2) hB hP q0 in_M rfl (by decide) fl_M_33 he hv hdg kk
theorem pf_M_33 (hB : Bd p s m args c cc "JournalDeskModel" nL D cs) (hP : va_P D classes ws H) (hD : va_D A ws) (hS : va_S A H0 H locs) (q0 : Nat) {fs : List Value} {v : Int32} (he : ws[q0]? = some (a, .inr (3, fs))) (hl : 2 < fs.length) (hdg : decode cc pc = .ok (.putfield 33, 3)) (kk : ∀ (H1 : Heap) (locs1 : List Loc), va_P D classes (ws.set q0 (a, .inr (3, fs.set 2 (.int v)))) H1 → va_D A (ws.set q0 (a, .inr (3, fs.set 2 (.int v)))) → va_S A H0 H1 locs1 → W p l e R s m args below meth c H1 locs1 cells slots Q (F0 m (pc + 3) ls rest)) : W p l e R s m args below meth c H locs cells slots Q (F0 m pc ls (.int v :: .ref a :: rest)) := x_put (T := F_M) (k := 2) hB hP hD hS q0 in_M t_M t_M_ok n_M rfl (by decide) fl_M_33 rfl he rfl rfl hl hdg kk
theorem gf_M_13 (hB : Bd p s m args c cc "JournalDeskModel" nL D cs) (hP : va_P D classes ws H) (q0 : Nat) {fs : List Value} {v : Value} (he : ws[q0]? = some (a, .inr (3, fs))) (hv : fs[3]? = some v) (hdg : decode cc pc = .ok (.getfield 13, 3)) (kk : W p l e R s m args below meth c H locs cells slots Q (F0 m (pc + 3) ls (v :: rest))) : W p l e R s m args below meth c H locs cells slots Q (F0 m pc ls (.ref a :: rest)) := x_get (T := F_M) (k := 3) hB hP q0 in_M rfl (by decide) fl_M_13 he hv hdg kk
theorem pF_M_13 (hB : Bd p s m args c cc "JournalDeskModel" nL D cs) (hP : va_P D classes ws H) (hD : va_D A ws) (hS : va_S A H0 H locs) (hin2 : meth.name = "<init>") (q0 : Nat) {fs : List Value} {v : Value} (he : ws[q0]? = some (a, .inr (3, fs))) (hn : narrow (.array .boolean) v = v) (hf : fits (.array .boolean) v = true) (hl : 3 < fs.length) (hdg : decode cc pc = .ok (.putfield 13, 3)) (kk : ∀ (H1 : Heap) (locs1 : List Loc), va_P D classes (ws.set q0 (a, .inr (3, fs.set 3 v))) H1 → va_D A (ws.set q0 (a, .inr (3, fs.set 3 v))) → va_S A H0 H1 locs1 → W p l e R s m args below meth c H1 locs1 cells slots Q (F0 m (pc + 3) ls rest)) : W p l e R s m args below meth c H locs cells slots Q (F0 m pc ls (v :: .ref a :: rest)) := x_putF (T := F_M) (k := 3) hB hP hD hS hin2 q0 in_M t_M t_M_ok n_M rfl (by decide) fl_M_13 rfl rfl he hn hf hl hdg kk
theorem gf_M_17 (hB : Bd p s m args c cc "JournalDeskModel" nL D cs) (hP : va_P D classes ws H) (q0 : Nat) {fs : List Value} {v : Value} (he : ws[q0]? = some (a, .inr (3, fs))) (hv : fs[4]? = some v) (hdg : decode cc pc = .ok (.getfield 17, 3)) (kk : W p l e R s m args below meth c H locs cells slots Q (F0 m (pc + 3) ls (v :: rest))) : W p l e R s m args below meth c H locs cells slots Q (F0 m pc ls (.ref a :: rest)) := x_get (T := F_M) (k := 4) hB hP q0 in_M rfl (by decide) fl_M_17 he hv hdg kk
theorem pF_M_17 (hB : Bd p s m args c cc "JournalDeskModel" nL D cs) (hP : va_P D classes ws H) (hD : va_D A ws) (hS : va_S A H0 H locs) (hin2 : meth.name = "<init>") (q0 : Nat) {fs : List Value} {v : Value} (he : ws[q0]? = some (a, .inr (3, fs))) (hn : narrow (.array .int) v = v) (hf : fits (.array .int) v = true) (hl : 4 < fs.length) (hdg : decode cc pc = .ok (.putfield 17, 3)) (kk : ∀ (H1 : Heap) (locs1 : List Loc), va_P D classes (ws.set q0 (a, .inr (3, fs.set 4 v))) H1 → va_D A (ws.set q0 (a, .inr (3, fs.set 4 v))) → va_S A H0 H1 locs1 → W p l e R s m args below meth c H1 locs1 cells slots Q (F0 m (pc + 3) ls rest)) : W p l e R s m args below meth c H locs cells slots Q (F0 m pc ls (v :: .ref a :: rest)) := x_putF (T := F_M) (k := 4) hB hP hD hS hin2 q0 in_M t_M t_M_ok n_M rfl (by decide) fl_M_17 rfl rfl he hn hf hl hdg kk
theorem gf_M_20 (hB : Bd p s m args c cc "JournalDeskModel" nL D cs) (hP : va_P D classes ws H) (q0 : Nat) {fs : List Value} {v : Value} (he : ws[q0]? = some (a, .inr (3, fs))) (hv : fs[5]? = some v) (hdg : decode cc pc = .ok (.getfield 20, 3)) (kk : W p l e R s m args below meth c H locs cells slots Q (F0 m (pc + 3) ls (v :: rest))) : W p l e R s m args below meth c H locs cells slots Q (F0 m pc ls (.ref a :: rest)) := x_get (T := F_M) (k := 5) hB hP q0 in_M rfl (by decide) fl_M_20 he hv hdg kk
theorem pF_M_20 (hB : Bd p s m args c cc "JournalDeskModel" nL D cs) (hP : va_P D classes ws H) (hD : va_D A ws) (hS : va_S A H0 H locs) (hin2 : meth.name = "<init>") (q0 : Nat) {fs : List Value} {v : Value} (he : ws[q0]? = some (a, .inr (3, fs))) (hn : narrow (.array .int) v = v) (hf : fits (.array .int) v = true) (hl : 5 < fs.length) (hdg : decode cc pc = .ok (.putfield 20, 3)) (kk : ∀ (H1 : Heap) (locs1 : List Loc), va_P D classes (ws.set q0 (a, .inr (3, fs.set 5 v))) H1 → va_D A (ws.set q0 (a, .inr (3, fs.set 5 v))) → va_S A H0 H1 locs1 → W p l e R s m args below meth c H1 locs1 cells slots Q (F0 m (pc + 3) ls rest)) : W p l e R s m args below meth c H locs cells slots Q (F0 m pc ls (v :: .ref a :: rest)) := x_putF (T := F_M) (k := 5) hB hP hD hS hin2 q0 in_M t_M t_M_ok n_M rfl (by decide) fl_M_20 rfl rfl he hn hf hl hdg kk
theorem gf_M_23 (hB : Bd p s m args c cc "JournalDeskModel" nL D cs) (hP : va_P D classes ws H) (q0 : Nat) {fs : List Value} {v : Value} (he : ws[q0]? = some (a, .inr (3, fs))) (hv : fs[6]? = some v) (hdg : decode cc pc = .ok (.getfield 23, 3)) (kk : W p l e R s m args below meth c H locs cells slots Q (F0 m (pc + 3) ls (v :: rest))) : W p l e R s m args below meth c H locs cells slots Q (F0 m pc ls (.ref a :: rest)) := x_get (T := F_M) (k := 6) hB hP q0 in_M rfl (by decide) fl_M_23 he hv hdg kk
theorem pF_M_23 (hB : Bd p s m args c cc "JournalDeskModel" nL D cs) (hP : va_P D classes ws H) (hD : va_D A ws) (hS : va_S A H0 H locs) (hin2 : meth.name = "<init>") (q0 : Nat) {fs : List Value} {v : Value} (he : ws[q0]? = some (a, .inr (3, fs))) (hn : narrow (.array .int) v = v) (hf : fits (.array .int) v = true) (hl : 6 < fs.length) (hdg : decode cc pc = .ok (.putfield 23, 3)) (kk : ∀ (H1 : Heap) (locs1 : List Loc), va_P D classes (ws.set q0 (a, .inr (3, fs.set 6 v))) H1 → va_D A (ws.set q0 (a, .inr (3, fs.set 6 v))) → va_S A H0 H1 locs1 → W p l e R s m args below meth c H1 locs1 cells slots Q (F0 m (pc + 3) ls rest)) : W p l e R s m args below meth c H locs cells slots Q (F0 m pc ls (v :: .ref a :: rest)) := x_putF (T := F_M) (k := 6) hB hP hD hS hin2 q0 in_M t_M t_M_ok n_M rfl (by decide) fl_M_23 rfl rfl he hn hf hl hdg kk
theorem gf_M_52 (hB : Bd p s m args c cc "JournalDeskModel" nL D cs) (hP : va_P D classes ws H) (q0 : Nat) {fs : List Value} {v : Value} (he : ws[q0]? = some (a, .inr (3, fs))) (hv : fs[7]? = some v) (hdg : decode cc pc = .ok (.getfield 52, 3)) (kk : W p l e R s m args below meth c H locs cells slots Q (F0 m (pc + 3) ls (v :: rest))) : W p l e R s m args below meth c H locs cells slots Q (F0 m pc ls (.ref a :: rest)) := x_get (T := F_M) (k := 7) hB hP q0 in_M rfl (by decide) fl_M_52 he hv hdg kk
theorem pf_M_52 (hB : Bd p s m args c cc "JournalDeskModel" nL D cs) (hP : va_P D classes ws H) (hD : va_D A ws) (hS : va_S A H0 H locs) (q0 : Nat) {fs : List Value} {v : Int32} (he : ws[q0]? = some (a, .inr (3, fs))) (hl : 7 < fs.length) (hdg : decode cc pc = .ok (.putfield 52, 3)) (kk : ∀ (H1 : Heap) (locs1 : List Loc), va_P D classes (ws.set q0 (a, .inr (3, fs.set 7 (.int v)))) H1 → va_D A (ws.set q0 (a, .inr (3, fs.set 7 (.int v)))) → va_S A H0 H1 locs1 → W p l e R s m args below meth c H1 locs1 cells slots Q (F0 m (pc + 3) ls rest)) : W p l e R s m args below meth c H locs cells slots Q (F0 m pc ls (.int v :: .ref a :: rest)) := x_put (T := F_M) (k := 7) hB hP hD hS q0 in_M t_M t_M_ok n_M rfl (by decide) fl_M_52 rfl he rfl rfl hl hdg kk
theorem gf_M_55 (hB : Bd p s m args c cc "JournalDeskModel" nL D cs) (hP : va_P D classes ws H) (q0 : Nat) {fs : List Value} {v : Value} (he : ws[q0]? = some (a, .inr (3, fs))) (hv : fs[8]? = some v) (hdg : decode cc pc = .ok (.getfield 55, 3)) (kk : W p l e R s m args below meth c H locs cells slots Q (F0 m (pc + 3) ls (v :: rest))) : W p l e R s m args below meth c H locs cells slots Q (F0 m pc ls (.ref a :: rest)) := x_get (T := F_M) (k := 8) hB hP q0 in_M rfl (by decide) fl_M_55 he hv hdg kk
theorem pf_M_55 (hB : Bd p s m args c cc "JournalDeskModel" nL D cs) (hP : va_P D classes ws H) (hD : va_D A ws) (hS : va_S A H0 H locs) (q0 : Nat) {fs : List Value} {v : Int32} (he : ws[q0]? = some (a, .inr (3, fs))) (hl : 8 < fs.length) (hdg : decode cc pc = .ok (.putfield 55, 3)) (kk : ∀ (H1 : Heap) (locs1 : List Loc), va_P D classes (ws.set q0 (a, .inr (3, fs.set 8 (.int v)))) H1 → va_D A (ws.set q0 (a, .inr (3, fs.set 8 (.int v)))) → va_S A H0 H1 locs1 → W p l e R s m args below meth c H1 locs1 cells slots Q (F0 m (pc + 3) ls rest)) : W p l e R s m args below meth c H locs cells slots Q (F0 m pc ls (.int v :: .ref a :: rest)) := x_put (T := F_M) (k := 8) hB hP hD hS q0 in_M t_M t_M_ok n_M rfl (by decide) fl_M_55 rfl he rfl rfl hl hdg kk
theorem gf_M_40 (hB : Bd p s m args c cc "JournalDeskModel" nL D cs) (hP : va_P D classes ws H) (q0 : Nat) {fs : List Value} {v : Value} (he : ws[q0]? = some (a, .inr (3, fs))) (hv : fs[9]? = some v) (hdg : decode cc pc = .ok (.getfield 40, 3)) (kk : W p l e R s m args below meth c H locs cells slots Q (F0 m (pc + 3) ls (v :: rest))) : W p l e R s m args below meth c H locs cells slots Q (F0 m pc ls (.ref a :: rest)) := x_get (T := F_M) (k := 9) hB hP q0 in_M rfl (by decide) fl_M_40 he hv hdg kk
theorem pf_M_40 (hB : Bd p s m args c cc "JournalDeskModel" nL D cs) (hP : va_P D classes ws H) (hD : va_D A ws) (hS : va_S A H0 H locs) (q0 : Nat) {fs : List Value} {v : Value} (he : ws[q0]? = some (a, .inr (3, fs))) (hn : narrow .boolean v = v) (hf : fits .boolean v = true) (hl : 9 < fs.length) (hdg : decode cc pc = .ok (.putfield 40, 3)) (kk : ∀ (H1 : Heap) (locs1 : List Loc), va_P D classes (ws.set q0 (a, .inr (3, fs.set 9 v))) H1 → va_D A (ws.set q0 (a, .inr (3, fs.set 9 v))) → va_S A H0 H1 locs1 → W p l e R s m args below meth c H1 locs1 cells slots Q (F0 m (pc + 3) ls rest)) : W p l e R s m args below meth c H locs cells slots Q (F0 m pc ls (v :: .ref a :: rest)) := x_put (T := F_M) (k := 9) hB hP hD hS q0 in_M t_M t_M_ok n_M rfl (by decide) fl_M_40 rfl he hn hf hl hdg kk
theorem gf_M_26 (hB : Bd p s m args c cc "JournalDeskModel" nL D cs) (hP : va_P D classes ws H) (q0 : Nat) {fs : List Value} {v : Value} (he : ws[q0]? = some (a, .inr (3, fs))) (hv : fs[10]? = some v) (hdg : decode cc pc = .ok (.getfield 26, 3)) (kk : W p l e R s m args below meth c H locs cells slots Q (F0 m (pc + 3) ls (v :: rest))) : W p l e R s m args below meth c H locs cells slots Q (F0 m pc ls (.ref a :: rest)) := x_get (T := F_M) (k := 10) hB hP q0 in_M rfl (by decide) fl_M_26 he hv hdg kk
theorem pf_M_26 (hB : Bd p s m args c cc "JournalDeskModel" nL D cs) (hP : va_P D classes ws H) (hD : va_D A ws) (hS : va_S A H0 H locs) (q0 : Nat) {fs : List Value} {v : Int32} (he : ws[q0]? = some (a, .inr (3, fs))) (hl : 10 < fs.length) (hdg : decode cc pc = .ok (.putfield 26, 3)) (kk : ∀ (H1 : Heap) (locs1 : List Loc), va_P D classes (ws.set q0 (a, .inr (3, fs.set 10 (.int v)))) H1 → va_D A (ws.set q0 (a, .inr (3, fs.set 10 (.int v)))) → va_S A H0 H1 locs1 → W p l e R s m args below meth c H1 locs1 cells slots Q (F0 m (pc + 3) ls rest)) : W p l e R s m args below meth c H locs cells slots Q (F0 m pc ls (.int v :: .ref a :: rest)) := x_put (T := F_M) (k := 10) hB hP hD hS q0 in_M t_M t_M_ok n_M rfl (by decide) fl_M_26 rfl he rfl rfl hl hdg kk
end XRC
end
section
theorem d_D_init_0 : decode b_D_init 0 = .ok (.aload_n 0, 1) := by decide +kernel
theorem d_D_init_1 : decode b_D_init 1 = .ok (.invokespecial 1, 3) := by decide +kernel
theorem d_D_init_4 : decode b_D_init 4 = .ok (.aload_n 0, 1) := by decide +kernel
theorem d_D_init_5 : decode b_D_init 5 = .ok (.new 7, 3) := by decide +kernel
theorem d_D_init_8 : decode b_D_init 8 = .ok (.dup, 1) := by decide +kernel
theorem d_D_init_9 : decode b_D_init 9 = .ok (.invokespecial 9, 3) := by decide +kernel
theorem d_D_init_12 : decode b_D_init 12 = .ok (.putfield 10, 3) := by decide +kernel
theorem d_D_init_15 : decode b_D_init 15 = .ok (.aload_n 0, 1) := by decide +kernel
theorem d_D_init_16 : decode b_D_init 16 = .ok (.bipush 100, 2) := by decide +kernel
theorem d_D_init_18 : decode b_D_init 18 = .ok (.newarray .byte, 2) := by decide +kernel
theorem d_D_init_20 : decode b_D_init 20 = .ok (.putfield 16, 3) := by decide +kernel
theorem d_D_init_23 : decode b_D_init 23 = .ok (.aload_n 0, 1) := by decide +kernel
theorem d_D_init_24 : decode b_D_init 24 = .ok (.iconst (-1), 1) := by decide +kernel
theorem d_D_init_25 : decode b_D_init 25 = .ok (.putfield 20, 3) := by decide +kernel
theorem d_D_init_28 : decode b_D_init 28 = .ok (.aload_n 0, 1) := by decide +kernel
theorem d_D_init_29 : decode b_D_init 29 = .ok (.iconst 1, 1) := by decide +kernel
theorem d_D_init_30 : decode b_D_init 30 = .ok (.putfield 24, 3) := by decide +kernel
theorem d_D_init_33 : decode b_D_init 33 = .ok (.aload_n 0, 1) := by decide +kernel
theorem d_D_init_34 : decode b_D_init 34 = .ok (.sipush 520, 3) := by decide +kernel
theorem d_D_init_37 : decode b_D_init 37 = .ok (.anewarray 28, 3) := by decide +kernel
theorem d_D_init_40 : decode b_D_init 40 = .ok (.putfield 30, 3) := by decide +kernel
theorem d_D_init_43 : decode b_D_init 43 = .ok (.iconst 0, 1) := by decide +kernel
theorem d_D_init_44 : decode b_D_init 44 = .ok (.istore_n 1, 1) := by decide +kernel
theorem d_D_init_45 : decode b_D_init 45 = .ok (.iload_n 1, 1) := by decide +kernel
theorem d_D_init_46 : decode b_D_init 46 = .ok (.sipush 520, 3) := by decide +kernel
theorem d_D_init_49 : decode b_D_init 49 = .ok (.if_icmp .ge 22, 3) := by decide +kernel
theorem d_D_init_52 : decode b_D_init 52 = .ok (.aload_n 0, 1) := by decide +kernel
theorem d_D_init_53 : decode b_D_init 53 = .ok (.getfield 30, 3) := by decide +kernel
theorem d_D_init_56 : decode b_D_init 56 = .ok (.iload_n 1, 1) := by decide +kernel
theorem d_D_init_57 : decode b_D_init 57 = .ok (.new 28, 3) := by decide +kernel
theorem d_D_init_60 : decode b_D_init 60 = .ok (.dup, 1) := by decide +kernel
theorem d_D_init_61 : decode b_D_init 61 = .ok (.invokespecial 34, 3) := by decide +kernel
theorem d_D_init_64 : decode b_D_init 64 = .ok (.aastore, 1) := by decide +kernel
theorem d_D_init_65 : decode b_D_init 65 = .ok (.iinc 1 1, 3) := by decide +kernel
theorem d_D_init_68 : decode b_D_init 68 = .ok (.goto (-23), 3) := by decide +kernel
theorem d_D_init_71 : decode b_D_init 71 = .ok (.return_, 1) := by decide +kernel
theorem d_D_put_0 : decode b_D_put 0 = .ok (.iload_n 3, 1) := by decide +kernel
theorem d_D_put_1 : decode b_D_put 1 = .ok (.iconst 1, 1) := by decide +kernel
theorem d_D_put_2 : decode b_D_put 2 = .ok (.if_icmp .lt 20, 3) := by decide +kernel
theorem d_D_put_5 : decode b_D_put 5 = .ok (.iload_n 3, 1) := by decide +kernel
theorem d_D_put_6 : decode b_D_put 6 = .ok (.bipush 8, 2) := by decide +kernel
theorem d_D_put_8 : decode b_D_put 8 = .ok (.if_icmp .gt 14, 3) := by decide +kernel
theorem d_D_put_11 : decode b_D_put 11 = .ok (.aload_n 0, 1) := by decide +kernel
theorem d_D_put_12 : decode b_D_put 12 = .ok (.getfield 35, 3) := by decide +kernel
theorem d_D_put_15 : decode b_D_put 15 = .ok (.iload_n 3, 1) := by decide +kernel
theorem d_D_put_16 : decode b_D_put 16 = .ok (.iadd, 1) := by decide +kernel
theorem d_D_put_17 : decode b_D_put 17 = .ok (.bipush 100, 2) := by decide +kernel
theorem d_D_put_19 : decode b_D_put 19 = .ok (.if_icmp .le 5, 3) := by decide +kernel
theorem d_D_put_22 : decode b_D_put 22 = .ok (.iconst 0, 1) := by decide +kernel
theorem d_D_put_23 : decode b_D_put 23 = .ok (.ireturn, 1) := by decide +kernel
theorem d_D_put_24 : decode b_D_put 24 = .ok (.iload_n 3, 1) := by decide +kernel
theorem d_D_put_25 : decode b_D_put 25 = .ok (.iconst 1, 1) := by decide +kernel
theorem d_D_put_26 : decode b_D_put 26 = .ok (.isub, 1) := by decide +kernel
theorem d_D_put_27 : decode b_D_put 27 = .ok (.istore 4, 2) := by decide +kernel
theorem d_D_put_29 : decode b_D_put 29 = .ok (.iload 4, 2) := by decide +kernel
theorem d_D_put_31 : decode b_D_put 31 = .ok (.ifCond .lt 37, 3) := by decide +kernel
theorem d_D_put_34 : decode b_D_put 34 = .ok (.aload_n 0, 1) := by decide +kernel
theorem d_D_put_35 : decode b_D_put 35 = .ok (.getfield 16, 3) := by decide +kernel
theorem d_D_put_38 : decode b_D_put 38 = .ok (.aload_n 0, 1) := by decide +kernel
theorem d_D_put_39 : decode b_D_put 39 = .ok (.getfield 35, 3) := by decide +kernel
theorem d_D_put_42 : decode b_D_put 42 = .ok (.lload_n 1, 1) := by decide +kernel
theorem d_D_put_43 : decode b_D_put 43 = .ok (.bipush 8, 2) := by decide +kernel
theorem d_D_put_45 : decode b_D_put 45 = .ok (.iload 4, 2) := by decide +kernel
theorem d_D_put_47 : decode b_D_put 47 = .ok (.imul, 1) := by decide +kernel
theorem d_D_put_48 : decode b_D_put 48 = .ok (.lshr, 1) := by decide +kernel
theorem d_D_put_49 : decode b_D_put 49 = .ok (.l2i, 1) := by decide +kernel
theorem d_D_put_50 : decode b_D_put 50 = .ok (.i2b, 1) := by decide +kernel
theorem d_D_put_51 : decode b_D_put 51 = .ok (.bastore, 1) := by decide +kernel
theorem d_D_put_52 : decode b_D_put 52 = .ok (.aload_n 0, 1) := by decide +kernel
theorem d_D_put_53 : decode b_D_put 53 = .ok (.dup, 1) := by decide +kernel
theorem d_D_put_54 : decode b_D_put 54 = .ok (.getfield 35, 3) := by decide +kernel
theorem d_D_put_57 : decode b_D_put 57 = .ok (.iconst 1, 1) := by decide +kernel
theorem d_D_put_58 : decode b_D_put 58 = .ok (.iadd, 1) := by decide +kernel
theorem d_D_put_59 : decode b_D_put 59 = .ok (.putfield 35, 3) := by decide +kernel
theorem d_D_put_62 : decode b_D_put 62 = .ok (.iinc 4 (-1), 3) := by decide +kernel
theorem d_D_put_65 : decode b_D_put 65 = .ok (.goto (-36), 3) := by decide +kernel
theorem d_D_put_68 : decode b_D_put 68 = .ok (.iconst 1, 1) := by decide +kernel
theorem d_D_put_69 : decode b_D_put 69 = .ok (.ireturn, 1) := by decide +kernel
theorem d_D_used_0 : decode b_D_used 0 = .ok (.iconst 0, 1) := by decide +kernel
theorem d_D_used_1 : decode b_D_used 1 = .ok (.istore_n 1, 1) := by decide +kernel
theorem d_D_used_2 : decode b_D_used 2 = .ok (.aload_n 0, 1) := by decide +kernel
theorem d_D_used_3 : decode b_D_used 3 = .ok (.getfield 38, 3) := by decide +kernel
theorem d_D_used_6 : decode b_D_used 6 = .ok (.istore_n 2, 1) := by decide +kernel
theorem d_D_used_7 : decode b_D_used 7 = .ok (.iload_n 2, 1) := by decide +kernel
theorem d_D_used_8 : decode b_D_used 8 = .ok (.aload_n 0, 1) := by decide +kernel
theorem d_D_used_9 : decode b_D_used 9 = .ok (.getfield 41, 3) := by decide +kernel
theorem d_D_used_12 : decode b_D_used 12 = .ok (.if_icmp .ge 21, 3) := by decide +kernel
theorem d_D_used_15 : decode b_D_used 15 = .ok (.iload_n 1, 1) := by decide +kernel
theorem d_D_used_16 : decode b_D_used 16 = .ok (.aload_n 0, 1) := by decide +kernel
theorem d_D_used_17 : decode b_D_used 17 = .ok (.getfield 30, 3) := by decide +kernel
theorem d_D_used_20 : decode b_D_used 20 = .ok (.iload_n 2, 1) := by decide +kernel
theorem d_D_used_21 : decode b_D_used 21 = .ok (.aaload, 1) := by decide +kernel
theorem d_D_used_22 : decode b_D_used 22 = .ok (.invokevirtual 44, 3) := by decide +kernel
theorem d_D_used_25 : decode b_D_used 25 = .ok (.iadd, 1) := by decide +kernel
theorem d_D_used_26 : decode b_D_used 26 = .ok (.istore_n 1, 1) := by decide +kernel
theorem d_D_used_27 : decode b_D_used 27 = .ok (.iinc 2 1, 3) := by decide +kernel
theorem d_D_used_30 : decode b_D_used 30 = .ok (.goto (-23), 3) := by decide +kernel
theorem d_D_used_33 : decode b_D_used 33 = .ok (.iload_n 1, 1) := by decide +kernel
theorem d_D_used_34 : decode b_D_used 34 = .ok (.ireturn, 1) := by decide +kernel
theorem d_D_many_0 : decode b_D_many 0 = .ok (.iconst 0, 1) := by decide +kernel
theorem d_D_many_1 : decode b_D_many 1 = .ok (.istore_n 1, 1) := by decide +kernel
theorem d_D_many_2 : decode b_D_many 2 = .ok (.aload_n 0, 1) := by decide +kernel
theorem d_D_many_3 : decode b_D_many 3 = .ok (.getfield 38, 3) := by decide +kernel
theorem d_D_many_6 : decode b_D_many 6 = .ok (.istore_n 2, 1) := by decide +kernel
theorem d_D_many_7 : decode b_D_many 7 = .ok (.iload_n 2, 1) := by decide +kernel
theorem d_D_many_8 : decode b_D_many 8 = .ok (.aload_n 0, 1) := by decide +kernel
theorem d_D_many_9 : decode b_D_many 9 = .ok (.getfield 41, 3) := by decide +kernel
theorem d_D_many_12 : decode b_D_many 12 = .ok (.if_icmp .ge 30, 3) := by decide +kernel
theorem d_D_many_15 : decode b_D_many 15 = .ok (.iload_n 1, 1) := by decide +kernel
theorem d_D_many_16 : decode b_D_many 16 = .ok (.aload_n 0, 1) := by decide +kernel
theorem d_D_many_17 : decode b_D_many 17 = .ok (.getfield 30, 3) := by decide +kernel
theorem d_D_many_20 : decode b_D_many 20 = .ok (.iload_n 2, 1) := by decide +kernel
theorem d_D_many_21 : decode b_D_many 21 = .ok (.aaload, 1) := by decide +kernel
theorem d_D_many_22 : decode b_D_many 22 = .ok (.getfield 48, 3) := by decide +kernel
theorem d_D_many_25 : decode b_D_many 25 = .ok (.iconst (-1), 1) := by decide +kernel
theorem d_D_many_26 : decode b_D_many 26 = .ok (.if_icmp .eq 7, 3) := by decide +kernel
theorem d_D_many_29 : decode b_D_many 29 = .ok (.iconst 1, 1) := by decide +kernel
theorem d_D_many_30 : decode b_D_many 30 = .ok (.goto 4, 3) := by decide +kernel
theorem d_D_many_33 : decode b_D_many 33 = .ok (.iconst 0, 1) := by decide +kernel
theorem d_D_many_34 : decode b_D_many 34 = .ok (.iadd, 1) := by decide +kernel
theorem d_D_many_35 : decode b_D_many 35 = .ok (.istore_n 1, 1) := by decide +kernel
theorem d_D_many_36 : decode b_D_many 36 = .ok (.iinc 2 1, 3) := by decide +kernel
theorem d_D_many_39 : decode b_D_many 39 = .ok (.goto (-32), 3) := by decide +kernel
theorem d_D_many_42 : decode b_D_many 42 = .ok (.iload_n 1, 1) := by decide +kernel
theorem d_D_many_43 : decode b_D_many 43 = .ok (.ireturn, 1) := by decide +kernel
theorem d_D_find_0 : decode b_D_find 0 = .ok (.iload_n 1, 1) := by decide +kernel
theorem d_D_find_1 : decode b_D_find 1 = .ok (.istore_n 2, 1) := by decide +kernel
theorem d_D_find_2 : decode b_D_find 2 = .ok (.aload_n 0, 1) := by decide +kernel
theorem d_D_find_3 : decode b_D_find 3 = .ok (.getfield 38, 3) := by decide +kernel
theorem d_D_find_6 : decode b_D_find 6 = .ok (.istore_n 3, 1) := by decide +kernel
theorem d_D_find_7 : decode b_D_find 7 = .ok (.iload_n 3, 1) := by decide +kernel
theorem d_D_find_8 : decode b_D_find 8 = .ok (.aload_n 0, 1) := by decide +kernel
theorem d_D_find_9 : decode b_D_find 9 = .ok (.getfield 41, 3) := by decide +kernel
theorem d_D_find_12 : decode b_D_find 12 = .ok (.if_icmp .ge 50, 3) := by decide +kernel
theorem d_D_find_15 : decode b_D_find 15 = .ok (.aload_n 0, 1) := by decide +kernel
theorem d_D_find_16 : decode b_D_find 16 = .ok (.getfield 24, 3) := by decide +kernel
theorem d_D_find_19 : decode b_D_find 19 = .ok (.ifCond .eq 43, 3) := by decide +kernel
theorem d_D_find_22 : decode b_D_find 22 = .ok (.iload_n 1, 1) := by decide +kernel
theorem d_D_find_23 : decode b_D_find 23 = .ok (.ifCond .lt 39, 3) := by decide +kernel
theorem d_D_find_26 : decode b_D_find 26 = .ok (.aload_n 0, 1) := by decide +kernel
theorem d_D_find_27 : decode b_D_find 27 = .ok (.getfield 30, 3) := by decide +kernel
theorem d_D_find_30 : decode b_D_find 30 = .ok (.iload_n 3, 1) := by decide +kernel
theorem d_D_find_31 : decode b_D_find 31 = .ok (.aaload, 1) := by decide +kernel
theorem d_D_find_32 : decode b_D_find 32 = .ok (.getfield 48, 3) := by decide +kernel
theorem d_D_find_35 : decode b_D_find 35 = .ok (.iconst (-1), 1) := by decide +kernel
theorem d_D_find_36 : decode b_D_find 36 = .ok (.if_icmp .ne 6, 3) := by decide +kernel
theorem d_D_find_39 : decode b_D_find 39 = .ok (.goto 17, 3) := by decide +kernel
theorem d_D_find_42 : decode b_D_find 42 = .ok (.iload_n 2, 1) := by decide +kernel
theorem d_D_find_43 : decode b_D_find 43 = .ok (.ifCond .ne 10, 3) := by decide +kernel
theorem d_D_find_46 : decode b_D_find 46 = .ok (.aload_n 0, 1) := by decide +kernel
theorem d_D_find_47 : decode b_D_find 47 = .ok (.getfield 30, 3) := by decide +kernel
theorem d_D_find_50 : decode b_D_find 50 = .ok (.iload_n 3, 1) := by decide +kernel
theorem d_D_find_51 : decode b_D_find 51 = .ok (.aaload, 1) := by decide +kernel
theorem d_D_find_52 : decode b_D_find 52 = .ok (.areturn, 1) := by decide +kernel
theorem d_D_find_53 : decode b_D_find 53 = .ok (.iinc 2 (-1), 3) := by decide +kernel
theorem d_D_find_56 : decode b_D_find 56 = .ok (.iinc 3 1, 3) := by decide +kernel
theorem d_D_find_59 : decode b_D_find 59 = .ok (.goto (-52), 3) := by decide +kernel
theorem d_D_find_62 : decode b_D_find 62 = .ok (.aconst_null, 1) := by decide +kernel
theorem d_D_find_63 : decode b_D_find 63 = .ok (.areturn, 1) := by decide +kernel
theorem d_D_sector_0 : decode b_D_sector 0 = .ok (.aload_n 0, 1) := by decide +kernel
theorem d_D_sector_1 : decode b_D_sector 1 = .ok (.getfield 10, 3) := by decide +kernel
theorem d_D_sector_4 : decode b_D_sector 4 = .ok (.iload_n 1, 1) := by decide +kernel
theorem d_D_sector_5 : decode b_D_sector 5 = .ok (.iconst 0, 1) := by decide +kernel
theorem d_D_sector_6 : decode b_D_sector 6 = .ok (.aload_n 0, 1) := by decide +kernel
theorem d_D_sector_7 : decode b_D_sector 7 = .ok (.getfield 41, 3) := by decide +kernel
theorem d_D_sector_10 : decode b_D_sector 10 = .ok (.invokevirtual 51, 3) := by decide +kernel
theorem d_D_sector_13 : decode b_D_sector 13 = .ok (.aload_n 0, 1) := by decide +kernel
theorem d_D_sector_14 : decode b_D_sector 14 = .ok (.getfield 10, 3) := by decide +kernel
theorem d_D_sector_17 : decode b_D_sector 17 = .ok (.iload_n 1, 1) := by decide +kernel
theorem d_D_sector_18 : decode b_D_sector 18 = .ok (.iconst 2, 1) := by decide +kernel
theorem d_D_sector_19 : decode b_D_sector 19 = .ok (.iload_n 2, 1) := by decide +kernel
theorem d_D_sector_20 : decode b_D_sector 20 = .ok (.invokevirtual 55, 3) := by decide +kernel
theorem d_D_sector_23 : decode b_D_sector 23 = .ok (.aload_n 0, 1) := by decide +kernel
theorem d_D_sector_24 : decode b_D_sector 24 = .ok (.getfield 10, 3) := by decide +kernel
theorem d_D_sector_27 : decode b_D_sector 27 = .ok (.iload_n 1, 1) := by decide +kernel
theorem d_D_sector_28 : decode b_D_sector 28 = .ok (.iconst 3, 1) := by decide +kernel
theorem d_D_sector_29 : decode b_D_sector 29 = .ok (.iload 5, 2) := by decide +kernel
theorem d_D_sector_31 : decode b_D_sector 31 = .ok (.iconst (-1), 1) := by decide +kernel
theorem d_D_sector_32 : decode b_D_sector 32 = .ok (.if_icmp .ne 9, 3) := by decide +kernel
theorem d_D_sector_35 : decode b_D_sector 35 = .ok (.sipush 255, 3) := by decide +kernel
theorem d_D_sector_38 : decode b_D_sector 38 = .ok (.goto 4, 3) := by decide +kernel
theorem d_D_sector_41 : decode b_D_sector 41 = .ok (.iload_n 3, 1) := by decide +kernel
theorem d_D_sector_42 : decode b_D_sector 42 = .ok (.invokevirtual 55, 3) := by decide +kernel
theorem d_D_sector_45 : decode b_D_sector 45 = .ok (.aload_n 0, 1) := by decide +kernel
theorem d_D_sector_46 : decode b_D_sector 46 = .ok (.getfield 10, 3) := by decide +kernel
theorem d_D_sector_49 : decode b_D_sector 49 = .ok (.iload_n 1, 1) := by decide +kernel
theorem d_D_sector_50 : decode b_D_sector 50 = .ok (.iconst 4, 1) := by decide +kernel
theorem d_D_sector_51 : decode b_D_sector 51 = .ok (.iload 4, 2) := by decide +kernel
theorem d_D_sector_53 : decode b_D_sector 53 = .ok (.invokevirtual 51, 3) := by decide +kernel
theorem d_D_sector_56 : decode b_D_sector 56 = .ok (.aload_n 0, 1) := by decide +kernel
theorem d_D_sector_57 : decode b_D_sector 57 = .ok (.getfield 10, 3) := by decide +kernel
theorem d_D_sector_60 : decode b_D_sector 60 = .ok (.iload_n 1, 1) := by decide +kernel
theorem d_D_sector_61 : decode b_D_sector 61 = .ok (.bipush 6, 2) := by decide +kernel
theorem d_D_sector_63 : decode b_D_sector 63 = .ok (.aload_n 0, 1) := by decide +kernel
theorem d_D_sector_64 : decode b_D_sector 64 = .ok (.getfield 58, 3) := by decide +kernel
theorem d_D_sector_67 : decode b_D_sector 67 = .ok (.invokevirtual 51, 3) := by decide +kernel
theorem d_D_sector_70 : decode b_D_sector 70 = .ok (.iconst 0, 1) := by decide +kernel
theorem d_D_sector_71 : decode b_D_sector 71 = .ok (.istore 6, 2) := by decide +kernel
theorem d_D_sector_73 : decode b_D_sector 73 = .ok (.iload 6, 2) := by decide +kernel
theorem d_D_sector_75 : decode b_D_sector 75 = .ok (.bipush 12, 2) := by decide +kernel
theorem d_D_sector_77 : decode b_D_sector 77 = .ok (.if_icmp .ge 45, 3) := by decide +kernel
theorem d_D_sector_80 : decode b_D_sector 80 = .ok (.bipush 12, 2) := by decide +kernel
theorem d_D_sector_82 : decode b_D_sector 82 = .ok (.iload_n 2, 1) := by decide +kernel
theorem d_D_sector_83 : decode b_D_sector 83 = .ok (.imul, 1) := by decide +kernel
theorem d_D_sector_84 : decode b_D_sector 84 = .ok (.iload 6, 2) := by decide +kernel
theorem d_D_sector_86 : decode b_D_sector 86 = .ok (.iadd, 1) := by decide +kernel
theorem d_D_sector_87 : decode b_D_sector 87 = .ok (.iload_n 3, 1) := by decide +kernel
theorem d_D_sector_88 : decode b_D_sector 88 = .ok (.if_icmp .ge 34, 3) := by decide +kernel
theorem d_D_sector_91 : decode b_D_sector 91 = .ok (.aload_n 0, 1) := by decide +kernel
theorem d_D_sector_92 : decode b_D_sector 92 = .ok (.getfield 10, 3) := by decide +kernel
theorem d_D_sector_95 : decode b_D_sector 95 = .ok (.iload_n 1, 1) := by decide +kernel
theorem d_D_sector_96 : decode b_D_sector 96 = .ok (.bipush 8, 2) := by decide +kernel
theorem d_D_sector_98 : decode b_D_sector 98 = .ok (.iload 6, 2) := by decide +kernel
theorem d_D_sector_100 : decode b_D_sector 100 = .ok (.iadd, 1) := by decide +kernel
theorem d_D_sector_101 : decode b_D_sector 101 = .ok (.aload_n 0, 1) := by decide +kernel
theorem d_D_sector_102 : decode b_D_sector 102 = .ok (.getfield 16, 3) := by decide +kernel
theorem d_D_sector_105 : decode b_D_sector 105 = .ok (.bipush 12, 2) := by decide +kernel
theorem d_D_sector_107 : decode b_D_sector 107 = .ok (.iload_n 2, 1) := by decide +kernel
theorem d_D_sector_108 : decode b_D_sector 108 = .ok (.imul, 1) := by decide +kernel
theorem d_D_sector_109 : decode b_D_sector 109 = .ok (.iload 6, 2) := by decide +kernel
theorem d_D_sector_111 : decode b_D_sector 111 = .ok (.iadd, 1) := by decide +kernel
theorem d_D_sector_112 : decode b_D_sector 112 = .ok (.baload, 1) := by decide +kernel
theorem d_D_sector_113 : decode b_D_sector 113 = .ok (.invokevirtual 55, 3) := by decide +kernel
theorem d_D_sector_116 : decode b_D_sector 116 = .ok (.iinc 6 1, 3) := by decide +kernel
theorem d_D_sector_119 : decode b_D_sector 119 = .ok (.goto (-46), 3) := by decide +kernel
theorem d_D_sector_122 : decode b_D_sector 122 = .ok (.aload_n 0, 1) := by decide +kernel
theorem d_D_sector_123 : decode b_D_sector 123 = .ok (.getfield 10, 3) := by decide +kernel
theorem d_D_sector_126 : decode b_D_sector 126 = .ok (.getfield 61, 3) := by decide +kernel
theorem d_D_sector_129 : decode b_D_sector 129 = .ok (.iload_n 1, 1) := by decide +kernel
theorem d_D_sector_130 : decode b_D_sector 130 = .ok (.iconst 1, 1) := by decide +kernel
theorem d_D_sector_131 : decode b_D_sector 131 = .ok (.bastore, 1) := by decide +kernel
theorem d_D_sector_132 : decode b_D_sector 132 = .ok (.return_, 1) := by decide +kernel
theorem d_D_append_0 : decode b_D_append 0 = .ok (.aload_n 0, 1) := by decide +kernel
theorem d_D_append_1 : decode b_D_append 1 = .ok (.getfield 30, 3) := by decide +kernel
theorem d_D_append_4 : decode b_D_append 4 = .ok (.aload_n 0, 1) := by decide +kernel
theorem d_D_append_5 : decode b_D_append 5 = .ok (.getfield 41, 3) := by decide +kernel
theorem d_D_append_8 : decode b_D_append 8 = .ok (.aaload, 1) := by decide +kernel
theorem d_D_append_9 : decode b_D_append 9 = .ok (.astore 4, 2) := by decide +kernel
theorem d_D_append_11 : decode b_D_append 11 = .ok (.aload 4, 2) := by decide +kernel
theorem d_D_append_13 : decode b_D_append 13 = .ok (.aload_n 0, 1) := by decide +kernel
theorem d_D_append_14 : decode b_D_append 14 = .ok (.getfield 65, 3) := by decide +kernel
theorem d_D_append_17 : decode b_D_append 17 = .ok (.putfield 68, 3) := by decide +kernel
theorem d_D_append_20 : decode b_D_append 20 = .ok (.aload 4, 2) := by decide +kernel
theorem d_D_append_22 : decode b_D_append 22 = .ok (.iload_n 1, 1) := by decide +kernel
theorem d_D_append_23 : decode b_D_append 23 = .ok (.putfield 71, 3) := by decide +kernel
theorem d_D_append_26 : decode b_D_append 26 = .ok (.aload 4, 2) := by decide +kernel
theorem d_D_append_28 : decode b_D_append 28 = .ok (.iload_n 3, 1) := by decide +kernel
theorem d_D_append_29 : decode b_D_append 29 = .ok (.putfield 48, 3) := by decide +kernel
theorem d_D_append_32 : decode b_D_append 32 = .ok (.aload 4, 2) := by decide +kernel
theorem d_D_append_34 : decode b_D_append 34 = .ok (.invokevirtual 44, 3) := by decide +kernel
theorem d_D_append_37 : decode b_D_append 37 = .ok (.istore 5, 2) := by decide +kernel
theorem d_D_append_39 : decode b_D_append 39 = .ok (.aload_n 0, 1) := by decide +kernel
theorem d_D_append_40 : decode b_D_append 40 = .ok (.getfield 20, 3) := by decide +kernel
theorem d_D_append_43 : decode b_D_append 43 = .ok (.iconst (-1), 1) := by decide +kernel
theorem d_D_append_44 : decode b_D_append 44 = .ok (.if_icmp .eq 7, 3) := by decide +kernel
theorem d_D_append_47 : decode b_D_append 47 = .ok (.iconst 1, 1) := by decide +kernel
theorem d_D_append_48 : decode b_D_append 48 = .ok (.goto 4, 3) := by decide +kernel
theorem d_D_append_51 : decode b_D_append 51 = .ok (.iconst 0, 1) := by decide +kernel
theorem d_D_append_52 : decode b_D_append 52 = .ok (.istore 6, 2) := by decide +kernel
theorem d_D_append_54 : decode b_D_append 54 = .ok (.iload 6, 2) := by decide +kernel
theorem d_D_append_56 : decode b_D_append 56 = .ok (.ifCond .eq 17, 3) := by decide +kernel
theorem d_D_append_59 : decode b_D_append 59 = .ok (.aload_n 0, 1) := by decide +kernel
theorem d_D_append_60 : decode b_D_append 60 = .ok (.getfield 20, 3) := by decide +kernel
theorem d_D_append_63 : decode b_D_append 63 = .ok (.iload 5, 2) := by decide +kernel
theorem d_D_append_65 : decode b_D_append 65 = .ok (.iconst 1, 1) := by decide +kernel
theorem d_D_append_66 : decode b_D_append 66 = .ok (.isub, 1) := by decide +kernel
theorem d_D_append_67 : decode b_D_append 67 = .ok (.invokestatic 72, 3) := by decide +kernel
theorem d_D_append_70 : decode b_D_append 70 = .ok (.goto 5, 3) := by decide +kernel
theorem d_D_append_73 : decode b_D_append 73 = .ok (.iload 5, 2) := by decide +kernel
theorem d_D_append_75 : decode b_D_append 75 = .ok (.istore 7, 2) := by decide +kernel
theorem d_D_append_77 : decode b_D_append 77 = .ok (.iconst 0, 1) := by decide +kernel
theorem d_D_append_78 : decode b_D_append 78 = .ok (.istore 8, 2) := by decide +kernel
theorem d_D_append_80 : decode b_D_append 80 = .ok (.iload 8, 2) := by decide +kernel
theorem d_D_append_82 : decode b_D_append 82 = .ok (.iload 7, 2) := by decide +kernel
theorem d_D_append_84 : decode b_D_append 84 = .ok (.if_icmp .ge 28, 3) := by decide +kernel
theorem d_D_append_87 : decode b_D_append 87 = .ok (.aload_n 0, 1) := by decide +kernel
theorem d_D_append_88 : decode b_D_append 88 = .ok (.aload_n 0, 1) := by decide +kernel
theorem d_D_append_89 : decode b_D_append 89 = .ok (.getfield 65, 3) := by decide +kernel
theorem d_D_append_92 : decode b_D_append 92 = .ok (.iload 8, 2) := by decide +kernel
theorem d_D_append_94 : decode b_D_append 94 = .ok (.iadd, 1) := by decide +kernel
theorem d_D_append_95 : decode b_D_append 95 = .ok (.bipush 40, 2) := by decide +kernel
theorem d_D_append_97 : decode b_D_append 97 = .ok (.irem, 1) := by decide +kernel
theorem d_D_append_98 : decode b_D_append 98 = .ok (.iload 8, 2) := by decide +kernel
theorem d_D_append_100 : decode b_D_append 100 = .ok (.iload_n 1, 1) := by decide +kernel
theorem d_D_append_101 : decode b_D_append 101 = .ok (.iload_n 2, 1) := by decide +kernel
theorem d_D_append_102 : decode b_D_append 102 = .ok (.iload_n 3, 1) := by decide +kernel
theorem d_D_append_103 : decode b_D_append 103 = .ok (.invokevirtual 78, 3) := by decide +kernel
theorem d_D_append_106 : decode b_D_append 106 = .ok (.iinc 8 1, 3) := by decide +kernel
theorem d_D_append_109 : decode b_D_append 109 = .ok (.goto (-29), 3) := by decide +kernel
theorem d_D_append_112 : decode b_D_append 112 = .ok (.aload_n 0, 1) := by decide +kernel
theorem d_D_append_113 : decode b_D_append 113 = .ok (.iconst (-1), 1) := by decide +kernel
theorem d_D_append_114 : decode b_D_append 114 = .ok (.putfield 20, 3) := by decide +kernel
theorem d_D_append_117 : decode b_D_append 117 = .ok (.iload 6, 2) := by decide +kernel
theorem d_D_append_119 : decode b_D_append 119 = .ok (.ifCond .eq 29, 3) := by decide +kernel
theorem d_D_append_122 : decode b_D_append 122 = .ok (.aload_n 0, 1) := by decide +kernel
theorem d_D_append_123 : decode b_D_append 123 = .ok (.getfield 10, 3) := by decide +kernel
theorem d_D_append_126 : decode b_D_append 126 = .ok (.getfield 61, 3) := by decide +kernel
theorem d_D_append_129 : decode b_D_append 129 = .ok (.aload_n 0, 1) := by decide +kernel
theorem d_D_append_130 : decode b_D_append 130 = .ok (.getfield 65, 3) := by decide +kernel
theorem d_D_append_133 : decode b_D_append 133 = .ok (.iload 7, 2) := by decide +kernel
theorem d_D_append_135 : decode b_D_append 135 = .ok (.iadd, 1) := by decide +kernel
theorem d_D_append_136 : decode b_D_append 136 = .ok (.bipush 40, 2) := by decide +kernel
theorem d_D_append_138 : decode b_D_append 138 = .ok (.irem, 1) := by decide +kernel
theorem d_D_append_139 : decode b_D_append 139 = .ok (.iconst 0, 1) := by decide +kernel
theorem d_D_append_140 : decode b_D_append 140 = .ok (.bastore, 1) := by decide +kernel
theorem d_D_append_141 : decode b_D_append 141 = .ok (.aload_n 0, 1) := by decide +kernel
theorem d_D_append_142 : decode b_D_append 142 = .ok (.iconst 0, 1) := by decide +kernel
theorem d_D_append_143 : decode b_D_append 143 = .ok (.putfield 24, 3) := by decide +kernel
theorem d_D_append_146 : decode b_D_append 146 = .ok (.iconst 0, 1) := by decide +kernel
theorem d_D_append_147 : decode b_D_append 147 = .ok (.ireturn, 1) := by decide +kernel
theorem d_D_append_148 : decode b_D_append 148 = .ok (.aload_n 0, 1) := by decide +kernel
theorem d_D_append_149 : decode b_D_append 149 = .ok (.aload_n 0, 1) := by decide +kernel
theorem d_D_append_150 : decode b_D_append 150 = .ok (.getfield 65, 3) := by decide +kernel
theorem d_D_append_153 : decode b_D_append 153 = .ok (.iload 5, 2) := by decide +kernel
theorem d_D_append_155 : decode b_D_append 155 = .ok (.iadd, 1) := by decide +kernel
theorem d_D_append_156 : decode b_D_append 156 = .ok (.bipush 40, 2) := by decide +kernel
theorem d_D_append_158 : decode b_D_append 158 = .ok (.irem, 1) := by decide +kernel
theorem d_D_append_159 : decode b_D_append 159 = .ok (.putfield 65, 3) := by decide +kernel
theorem d_D_append_162 : decode b_D_append 162 = .ok (.aload_n 0, 1) := by decide +kernel
theorem d_D_append_163 : decode b_D_append 163 = .ok (.dup, 1) := by decide +kernel
theorem d_D_append_164 : decode b_D_append 164 = .ok (.getfield 41, 3) := by decide +kernel
theorem d_D_append_167 : decode b_D_append 167 = .ok (.iconst 1, 1) := by decide +kernel
theorem d_D_append_168 : decode b_D_append 168 = .ok (.iadd, 1) := by decide +kernel
theorem d_D_append_169 : decode b_D_append 169 = .ok (.putfield 41, 3) := by decide +kernel
theorem d_D_append_172 : decode b_D_append 172 = .ok (.iconst 1, 1) := by decide +kernel
theorem d_D_append_173 : decode b_D_append 173 = .ok (.ireturn, 1) := by decide +kernel
theorem d_D_hasRoom_0 : decode b_D_hasRoom 0 = .ok (.aload_n 0, 1) := by decide +kernel
theorem d_D_hasRoom_1 : decode b_D_hasRoom 1 = .ok (.getfield 24, 3) := by decide +kernel
theorem d_D_hasRoom_4 : decode b_D_hasRoom 4 = .ok (.ifCond .eq 18, 3) := by decide +kernel
theorem d_D_hasRoom_7 : decode b_D_hasRoom 7 = .ok (.aload_n 0, 1) := by decide +kernel
theorem d_D_hasRoom_8 : decode b_D_hasRoom 8 = .ok (.invokevirtual 82, 3) := by decide +kernel
theorem d_D_hasRoom_11 : decode b_D_hasRoom 11 = .ok (.iload_n 1, 1) := by decide +kernel
theorem d_D_hasRoom_12 : decode b_D_hasRoom 12 = .ok (.iadd, 1) := by decide +kernel
theorem d_D_hasRoom_13 : decode b_D_hasRoom 13 = .ok (.bipush 40, 2) := by decide +kernel
theorem d_D_hasRoom_15 : decode b_D_hasRoom 15 = .ok (.if_icmp .gt 7, 3) := by decide +kernel
theorem d_D_hasRoom_18 : decode b_D_hasRoom 18 = .ok (.iconst 1, 1) := by decide +kernel
theorem d_D_hasRoom_19 : decode b_D_hasRoom 19 = .ok (.goto 4, 3) := by decide +kernel
theorem d_D_hasRoom_22 : decode b_D_hasRoom 22 = .ok (.iconst 0, 1) := by decide +kernel
theorem d_D_hasRoom_23 : decode b_D_hasRoom 23 = .ok (.ireturn, 1) := by decide +kernel
end
section
theorem d_D_write_0 : decode b_D_write 0 = .ok (.iconst 1, 1) := by decide +kernel
theorem d_D_write_1 : decode b_D_write 1 = .ok (.aload_n 0, 1) := by decide +kernel
theorem d_D_write_2 : decode b_D_write 2 = .ok (.getfield 35, 3) := by decide +kernel
theorem d_D_write_5 : decode b_D_write 5 = .ok (.bipush 12, 2) := by decide +kernel
theorem d_D_write_7 : decode b_D_write 7 = .ok (.iadd, 1) := by decide +kernel
theorem d_D_write_8 : decode b_D_write 8 = .ok (.iconst 1, 1) := by decide +kernel
theorem d_D_write_9 : decode b_D_write 9 = .ok (.isub, 1) := by decide +kernel
theorem d_D_write_10 : decode b_D_write 10 = .ok (.bipush 12, 2) := by decide +kernel
theorem d_D_write_12 : decode b_D_write 12 = .ok (.idiv, 1) := by decide +kernel
theorem d_D_write_13 : decode b_D_write 13 = .ok (.invokestatic 85, 3) := by decide +kernel
theorem d_D_write_16 : decode b_D_write 16 = .ok (.istore_n 1, 1) := by decide +kernel
theorem d_D_write_17 : decode b_D_write 17 = .ok (.aload_n 0, 1) := by decide +kernel
theorem d_D_write_18 : decode b_D_write 18 = .ok (.iload_n 1, 1) := by decide +kernel
theorem d_D_write_19 : decode b_D_write 19 = .ok (.invokevirtual 88, 3) := by decide +kernel
theorem d_D_write_22 : decode b_D_write 22 = .ok (.ifCond .ne 5, 3) := by decide +kernel
theorem d_D_write_25 : decode b_D_write 25 = .ok (.iconst (-1), 1) := by decide +kernel
theorem d_D_write_26 : decode b_D_write 26 = .ok (.ireturn, 1) := by decide +kernel
theorem d_D_write_27 : decode b_D_write 27 = .ok (.aload_n 0, 1) := by decide +kernel
theorem d_D_write_28 : decode b_D_write 28 = .ok (.aload_n 0, 1) := by decide +kernel
theorem d_D_write_29 : decode b_D_write 29 = .ok (.getfield 35, 3) := by decide +kernel
theorem d_D_write_32 : decode b_D_write 32 = .ok (.aload_n 0, 1) := by decide +kernel
theorem d_D_write_33 : decode b_D_write 33 = .ok (.getfield 38, 3) := by decide +kernel
theorem d_D_write_36 : decode b_D_write 36 = .ok (.aload_n 0, 1) := by decide +kernel
theorem d_D_write_37 : decode b_D_write 37 = .ok (.getfield 58, 3) := by decide +kernel
theorem d_D_write_40 : decode b_D_write 40 = .ok (.invokevirtual 92, 3) := by decide +kernel
theorem d_D_write_43 : decode b_D_write 43 = .ok (.istore_n 2, 1) := by decide +kernel
theorem d_D_write_44 : decode b_D_write 44 = .ok (.aload_n 0, 1) := by decide +kernel
theorem d_D_write_45 : decode b_D_write 45 = .ok (.iconst 0, 1) := by decide +kernel
theorem d_D_write_46 : decode b_D_write 46 = .ok (.putfield 35, 3) := by decide +kernel
theorem d_D_write_49 : decode b_D_write 49 = .ok (.iload_n 2, 1) := by decide +kernel
theorem d_D_write_50 : decode b_D_write 50 = .ok (.ifCond .ne 6, 3) := by decide +kernel
theorem d_D_write_53 : decode b_D_write 53 = .ok (.bipush (-2), 2) := by decide +kernel
theorem d_D_write_55 : decode b_D_write 55 = .ok (.ireturn, 1) := by decide +kernel
theorem d_D_write_56 : decode b_D_write 56 = .ok (.aload_n 0, 1) := by decide +kernel
theorem d_D_write_57 : decode b_D_write 57 = .ok (.dup, 1) := by decide +kernel
theorem d_D_write_58 : decode b_D_write 58 = .ok (.getfield 58, 3) := by decide +kernel
theorem d_D_write_61 : decode b_D_write 61 = .ok (.iconst 1, 1) := by decide +kernel
theorem d_D_write_62 : decode b_D_write 62 = .ok (.iadd, 1) := by decide +kernel
theorem d_D_write_63 : decode b_D_write 63 = .ok (.putfield 58, 3) := by decide +kernel
theorem d_D_write_66 : decode b_D_write 66 = .ok (.aload_n 0, 1) := by decide +kernel
theorem d_D_write_67 : decode b_D_write 67 = .ok (.getfield 58, 3) := by decide +kernel
theorem d_D_write_70 : decode b_D_write 70 = .ok (.iconst 1, 1) := by decide +kernel
theorem d_D_write_71 : decode b_D_write 71 = .ok (.isub, 1) := by decide +kernel
theorem d_D_write_72 : decode b_D_write 72 = .ok (.ireturn, 1) := by decide +kernel
theorem d_D_drop_0 : decode b_D_drop 0 = .ok (.aload_n 0, 1) := by decide +kernel
theorem d_D_drop_1 : decode b_D_drop 1 = .ok (.iconst 1, 1) := by decide +kernel
theorem d_D_drop_2 : decode b_D_drop 2 = .ok (.invokevirtual 88, 3) := by decide +kernel
theorem d_D_drop_5 : decode b_D_drop 5 = .ok (.ifCond .eq 15, 3) := by decide +kernel
theorem d_D_drop_8 : decode b_D_drop 8 = .ok (.iload_n 1, 1) := by decide +kernel
theorem d_D_drop_9 : decode b_D_drop 9 = .ok (.ifCond .lt 11, 3) := by decide +kernel
theorem d_D_drop_12 : decode b_D_drop 12 = .ok (.iload_n 1, 1) := by decide +kernel
theorem d_D_drop_13 : decode b_D_drop 13 = .ok (.aload_n 0, 1) := by decide +kernel
theorem d_D_drop_14 : decode b_D_drop 14 = .ok (.invokevirtual 96, 3) := by decide +kernel
theorem d_D_drop_17 : decode b_D_drop 17 = .ok (.if_icmp .le 5, 3) := by decide +kernel
theorem d_D_drop_20 : decode b_D_drop 20 = .ok (.iconst (-1), 1) := by decide +kernel
theorem d_D_drop_21 : decode b_D_drop 21 = .ok (.ireturn, 1) := by decide +kernel
theorem d_D_drop_22 : decode b_D_drop 22 = .ok (.aload_n 0, 1) := by decide +kernel
theorem d_D_drop_23 : decode b_D_drop 23 = .ok (.getfield 38, 3) := by decide +kernel
theorem d_D_drop_26 : decode b_D_drop 26 = .ok (.istore_n 2, 1) := by decide +kernel
theorem d_D_drop_27 : decode b_D_drop 27 = .ok (.iload_n 1, 1) := by decide +kernel
theorem d_D_drop_28 : decode b_D_drop 28 = .ok (.istore_n 3, 1) := by decide +kernel
theorem d_D_drop_29 : decode b_D_drop 29 = .ok (.iload_n 2, 1) := by decide +kernel
theorem d_D_drop_30 : decode b_D_drop 30 = .ok (.aload_n 0, 1) := by decide +kernel
theorem d_D_drop_31 : decode b_D_drop 31 = .ok (.getfield 41, 3) := by decide +kernel
theorem d_D_drop_34 : decode b_D_drop 34 = .ok (.if_icmp .ge 47, 3) := by decide +kernel
theorem d_D_drop_37 : decode b_D_drop 37 = .ok (.iload_n 3, 1) := by decide +kernel
theorem d_D_drop_38 : decode b_D_drop 38 = .ok (.ifCond .gt 16, 3) := by decide +kernel
theorem d_D_drop_41 : decode b_D_drop 41 = .ok (.aload_n 0, 1) := by decide +kernel
theorem d_D_drop_42 : decode b_D_drop 42 = .ok (.getfield 30, 3) := by decide +kernel
theorem d_D_drop_45 : decode b_D_drop 45 = .ok (.iload_n 2, 1) := by decide +kernel
theorem d_D_drop_46 : decode b_D_drop 46 = .ok (.aaload, 1) := by decide +kernel
theorem d_D_drop_47 : decode b_D_drop 47 = .ok (.getfield 48, 3) := by decide +kernel
theorem d_D_drop_50 : decode b_D_drop 50 = .ok (.iconst (-1), 1) := by decide +kernel
theorem d_D_drop_51 : decode b_D_drop 51 = .ok (.if_icmp .ne 30, 3) := by decide +kernel
theorem d_D_drop_54 : decode b_D_drop 54 = .ok (.iload_n 3, 1) := by decide +kernel
theorem d_D_drop_55 : decode b_D_drop 55 = .ok (.aload_n 0, 1) := by decide +kernel
theorem d_D_drop_56 : decode b_D_drop 56 = .ok (.getfield 30, 3) := by decide +kernel
theorem d_D_drop_59 : decode b_D_drop 59 = .ok (.iload_n 2, 1) := by decide +kernel
theorem d_D_drop_60 : decode b_D_drop 60 = .ok (.aaload, 1) := by decide +kernel
theorem d_D_drop_61 : decode b_D_drop 61 = .ok (.getfield 48, 3) := by decide +kernel
theorem d_D_drop_64 : decode b_D_drop 64 = .ok (.iconst (-1), 1) := by decide +kernel
theorem d_D_drop_65 : decode b_D_drop 65 = .ok (.if_icmp .eq 7, 3) := by decide +kernel
theorem d_D_drop_68 : decode b_D_drop 68 = .ok (.iconst 1, 1) := by decide +kernel
theorem d_D_drop_69 : decode b_D_drop 69 = .ok (.goto 4, 3) := by decide +kernel
theorem d_D_drop_72 : decode b_D_drop 72 = .ok (.iconst 0, 1) := by decide +kernel
theorem d_D_drop_73 : decode b_D_drop 73 = .ok (.isub, 1) := by decide +kernel
theorem d_D_drop_74 : decode b_D_drop 74 = .ok (.istore_n 3, 1) := by decide +kernel
theorem d_D_drop_75 : decode b_D_drop 75 = .ok (.iinc 2 1, 3) := by decide +kernel
theorem d_D_drop_78 : decode b_D_drop 78 = .ok (.goto (-49), 3) := by decide +kernel
theorem d_D_drop_81 : decode b_D_drop 81 = .ok (.aload_n 0, 1) := by decide +kernel
theorem d_D_drop_82 : decode b_D_drop 82 = .ok (.iconst 0, 1) := by decide +kernel
theorem d_D_drop_83 : decode b_D_drop 83 = .ok (.iload_n 2, 1) := by decide +kernel
theorem d_D_drop_84 : decode b_D_drop 84 = .ok (.iconst (-1), 1) := by decide +kernel
theorem d_D_drop_85 : decode b_D_drop 85 = .ok (.invokevirtual 92, 3) := by decide +kernel
theorem d_D_drop_88 : decode b_D_drop 88 = .ok (.ifCond .ne 6, 3) := by decide +kernel
theorem d_D_drop_91 : decode b_D_drop 91 = .ok (.bipush (-2), 2) := by decide +kernel
theorem d_D_drop_93 : decode b_D_drop 93 = .ok (.ireturn, 1) := by decide +kernel
theorem d_D_drop_94 : decode b_D_drop 94 = .ok (.aload_n 0, 1) := by decide +kernel
theorem d_D_drop_95 : decode b_D_drop 95 = .ok (.iload_n 2, 1) := by decide +kernel
theorem d_D_drop_96 : decode b_D_drop 96 = .ok (.putfield 38, 3) := by decide +kernel
theorem d_D_drop_99 : decode b_D_drop 99 = .ok (.aload_n 0, 1) := by decide +kernel
theorem d_D_drop_100 : decode b_D_drop 100 = .ok (.invokevirtual 96, 3) := by decide +kernel
theorem d_D_drop_103 : decode b_D_drop 103 = .ok (.ireturn, 1) := by decide +kernel
theorem d_D_cut_0 : decode b_D_cut 0 = .ok (.iload_n 1, 1) := by decide +kernel
theorem d_D_cut_1 : decode b_D_cut 1 = .ok (.iconst (-1), 1) := by decide +kernel
theorem d_D_cut_2 : decode b_D_cut 2 = .ok (.if_icmp .lt 9, 3) := by decide +kernel
theorem d_D_cut_5 : decode b_D_cut 5 = .ok (.iload_n 1, 1) := by decide +kernel
theorem d_D_cut_6 : decode b_D_cut 6 = .ok (.bipush 8, 2) := by decide +kernel
theorem d_D_cut_8 : decode b_D_cut 8 = .ok (.if_icmp .le 5, 3) := by decide +kernel
theorem d_D_cut_11 : decode b_D_cut 11 = .ok (.iconst 0, 1) := by decide +kernel
theorem d_D_cut_12 : decode b_D_cut 12 = .ok (.ireturn, 1) := by decide +kernel
theorem d_D_cut_13 : decode b_D_cut 13 = .ok (.aload_n 0, 1) := by decide +kernel
theorem d_D_cut_14 : decode b_D_cut 14 = .ok (.iload_n 1, 1) := by decide +kernel
theorem d_D_cut_15 : decode b_D_cut 15 = .ok (.putfield 20, 3) := by decide +kernel
theorem d_D_cut_18 : decode b_D_cut 18 = .ok (.iconst 1, 1) := by decide +kernel
theorem d_D_cut_19 : decode b_D_cut 19 = .ok (.ireturn, 1) := by decide +kernel
theorem d_D_sizeAt_0 : decode b_D_sizeAt 0 = .ok (.aload_n 0, 1) := by decide +kernel
theorem d_D_sizeAt_1 : decode b_D_sizeAt 1 = .ok (.getfield 10, 3) := by decide +kernel
theorem d_D_sizeAt_4 : decode b_D_sizeAt 4 = .ok (.iload_n 1, 1) := by decide +kernel
theorem d_D_sizeAt_5 : decode b_D_sizeAt 5 = .ok (.iconst 3, 1) := by decide +kernel
theorem d_D_sizeAt_6 : decode b_D_sizeAt 6 = .ok (.invokevirtual 99, 3) := by decide +kernel
theorem d_D_sizeAt_9 : decode b_D_sizeAt 9 = .ok (.sipush 255, 3) := by decide +kernel
theorem d_D_sizeAt_12 : decode b_D_sizeAt 12 = .ok (.if_icmp .ne 7, 3) := by decide +kernel
theorem d_D_sizeAt_15 : decode b_D_sizeAt 15 = .ok (.iconst 0, 1) := by decide +kernel
theorem d_D_sizeAt_16 : decode b_D_sizeAt 16 = .ok (.goto 12, 3) := by decide +kernel
theorem d_D_sizeAt_19 : decode b_D_sizeAt 19 = .ok (.aload_n 0, 1) := by decide +kernel
theorem d_D_sizeAt_20 : decode b_D_sizeAt 20 = .ok (.getfield 10, 3) := by decide +kernel
theorem d_D_sizeAt_23 : decode b_D_sizeAt 23 = .ok (.iload_n 1, 1) := by decide +kernel
theorem d_D_sizeAt_24 : decode b_D_sizeAt 24 = .ok (.iconst 3, 1) := by decide +kernel
theorem d_D_sizeAt_25 : decode b_D_sizeAt 25 = .ok (.invokevirtual 99, 3) := by decide +kernel
theorem d_D_sizeAt_28 : decode b_D_sizeAt 28 = .ok (.ireturn, 1) := by decide +kernel
theorem d_D_needAt_0 : decode b_D_needAt 0 = .ok (.iconst 1, 1) := by decide +kernel
theorem d_D_needAt_1 : decode b_D_needAt 1 = .ok (.aload_n 0, 1) := by decide +kernel
theorem d_D_needAt_2 : decode b_D_needAt 2 = .ok (.iload_n 1, 1) := by decide +kernel
theorem d_D_needAt_3 : decode b_D_needAt 3 = .ok (.invokevirtual 102, 3) := by decide +kernel
theorem d_D_needAt_6 : decode b_D_needAt 6 = .ok (.bipush 12, 2) := by decide +kernel
theorem d_D_needAt_8 : decode b_D_needAt 8 = .ok (.iadd, 1) := by decide +kernel
theorem d_D_needAt_9 : decode b_D_needAt 9 = .ok (.iconst 1, 1) := by decide +kernel
theorem d_D_needAt_10 : decode b_D_needAt 10 = .ok (.isub, 1) := by decide +kernel
theorem d_D_needAt_11 : decode b_D_needAt 11 = .ok (.bipush 12, 2) := by decide +kernel
theorem d_D_needAt_13 : decode b_D_needAt 13 = .ok (.idiv, 1) := by decide +kernel
theorem d_D_needAt_14 : decode b_D_needAt 14 = .ok (.invokestatic 85, 3) := by decide +kernel
theorem d_D_needAt_17 : decode b_D_needAt 17 = .ok (.ireturn, 1) := by decide +kernel
theorem d_D_whole_0 : decode b_D_whole 0 = .ok (.iconst 0, 1) := by decide +kernel
theorem d_D_whole_1 : decode b_D_whole 1 = .ok (.istore_n 2, 1) := by decide +kernel
theorem d_D_whole_2 : decode b_D_whole 2 = .ok (.iload_n 2, 1) := by decide +kernel
theorem d_D_whole_3 : decode b_D_whole 3 = .ok (.bipush 40, 2) := by decide +kernel
theorem d_D_whole_5 : decode b_D_whole 5 = .ok (.if_icmp .ge 143, 3) := by decide +kernel
theorem d_D_whole_8 : decode b_D_whole 8 = .ok (.aload_n 0, 1) := by decide +kernel
theorem d_D_whole_9 : decode b_D_whole 9 = .ok (.getfield 10, 3) := by decide +kernel
theorem d_D_whole_12 : decode b_D_whole 12 = .ok (.getfield 61, 3) := by decide +kernel
theorem d_D_whole_15 : decode b_D_whole 15 = .ok (.iload_n 2, 1) := by decide +kernel
theorem d_D_whole_16 : decode b_D_whole 16 = .ok (.baload, 1) := by decide +kernel
theorem d_D_whole_17 : decode b_D_whole 17 = .ok (.ifCond .eq 125, 3) := by decide +kernel
theorem d_D_whole_20 : decode b_D_whole 20 = .ok (.aload_n 0, 1) := by decide +kernel
theorem d_D_whole_21 : decode b_D_whole 21 = .ok (.getfield 10, 3) := by decide +kernel
theorem d_D_whole_24 : decode b_D_whole 24 = .ok (.iload_n 2, 1) := by decide +kernel
theorem d_D_whole_25 : decode b_D_whole 25 = .ok (.iconst 0, 1) := by decide +kernel
theorem d_D_whole_26 : decode b_D_whole 26 = .ok (.invokevirtual 106, 3) := by decide +kernel
theorem d_D_whole_29 : decode b_D_whole 29 = .ok (.iload_n 1, 1) := by decide +kernel
theorem d_D_whole_30 : decode b_D_whole 30 = .ok (.if_icmp .ne 112, 3) := by decide +kernel
theorem d_D_whole_33 : decode b_D_whole 33 = .ok (.aload_n 0, 1) := by decide +kernel
theorem d_D_whole_34 : decode b_D_whole 34 = .ok (.getfield 10, 3) := by decide +kernel
theorem d_D_whole_37 : decode b_D_whole 37 = .ok (.iload_n 2, 1) := by decide +kernel
theorem d_D_whole_38 : decode b_D_whole 38 = .ok (.iconst 2, 1) := by decide +kernel
theorem d_D_whole_39 : decode b_D_whole 39 = .ok (.invokevirtual 99, 3) := by decide +kernel
theorem d_D_whole_42 : decode b_D_whole 42 = .ok (.ifCond .eq 6, 3) := by decide +kernel
theorem d_D_whole_45 : decode b_D_whole 45 = .ok (.goto 97, 3) := by decide +kernel
theorem d_D_whole_48 : decode b_D_whole 48 = .ok (.aload_n 0, 1) := by decide +kernel
theorem d_D_whole_49 : decode b_D_whole 49 = .ok (.iload_n 2, 1) := by decide +kernel
theorem d_D_whole_50 : decode b_D_whole 50 = .ok (.invokevirtual 109, 3) := by decide +kernel
theorem d_D_whole_53 : decode b_D_whole 53 = .ok (.istore_n 3, 1) := by decide +kernel
theorem d_D_whole_54 : decode b_D_whole 54 = .ok (.iconst 1, 1) := by decide +kernel
theorem d_D_whole_55 : decode b_D_whole 55 = .ok (.istore 4, 2) := by decide +kernel
theorem d_D_whole_57 : decode b_D_whole 57 = .ok (.iconst 0, 1) := by decide +kernel
theorem d_D_whole_58 : decode b_D_whole 58 = .ok (.istore 5, 2) := by decide +kernel
theorem d_D_whole_60 : decode b_D_whole 60 = .ok (.iload 5, 2) := by decide +kernel
theorem d_D_whole_62 : decode b_D_whole 62 = .ok (.iload_n 3, 1) := by decide +kernel
theorem d_D_whole_63 : decode b_D_whole 63 = .ok (.if_icmp .ge 72, 3) := by decide +kernel
theorem d_D_whole_66 : decode b_D_whole 66 = .ok (.iload 4, 2) := by decide +kernel
theorem d_D_whole_68 : decode b_D_whole 68 = .ok (.ifCond .eq 67, 3) := by decide +kernel
theorem d_D_whole_71 : decode b_D_whole 71 = .ok (.iload_n 2, 1) := by decide +kernel
theorem d_D_whole_72 : decode b_D_whole 72 = .ok (.iload 5, 2) := by decide +kernel
theorem d_D_whole_74 : decode b_D_whole 74 = .ok (.iadd, 1) := by decide +kernel
theorem d_D_whole_75 : decode b_D_whole 75 = .ok (.bipush 40, 2) := by decide +kernel
theorem d_D_whole_77 : decode b_D_whole 77 = .ok (.irem, 1) := by decide +kernel
theorem d_D_whole_78 : decode b_D_whole 78 = .ok (.istore 6, 2) := by decide +kernel
theorem d_D_whole_80 : decode b_D_whole 80 = .ok (.aload_n 0, 1) := by decide +kernel
theorem d_D_whole_81 : decode b_D_whole 81 = .ok (.getfield 10, 3) := by decide +kernel
theorem d_D_whole_84 : decode b_D_whole 84 = .ok (.getfield 61, 3) := by decide +kernel
theorem d_D_whole_87 : decode b_D_whole 87 = .ok (.iload 6, 2) := by decide +kernel
theorem d_D_whole_89 : decode b_D_whole 89 = .ok (.baload, 1) := by decide +kernel
theorem d_D_whole_90 : decode b_D_whole 90 = .ok (.ifCond .eq 36, 3) := by decide +kernel
theorem d_D_whole_93 : decode b_D_whole 93 = .ok (.aload_n 0, 1) := by decide +kernel
theorem d_D_whole_94 : decode b_D_whole 94 = .ok (.getfield 10, 3) := by decide +kernel
theorem d_D_whole_97 : decode b_D_whole 97 = .ok (.iload 6, 2) := by decide +kernel
theorem d_D_whole_99 : decode b_D_whole 99 = .ok (.iconst 0, 1) := by decide +kernel
theorem d_D_whole_100 : decode b_D_whole 100 = .ok (.invokevirtual 106, 3) := by decide +kernel
theorem d_D_whole_103 : decode b_D_whole 103 = .ok (.iload_n 1, 1) := by decide +kernel
theorem d_D_whole_104 : decode b_D_whole 104 = .ok (.if_icmp .ne 22, 3) := by decide +kernel
theorem d_D_whole_107 : decode b_D_whole 107 = .ok (.aload_n 0, 1) := by decide +kernel
theorem d_D_whole_108 : decode b_D_whole 108 = .ok (.getfield 10, 3) := by decide +kernel
theorem d_D_whole_111 : decode b_D_whole 111 = .ok (.iload 6, 2) := by decide +kernel
theorem d_D_whole_113 : decode b_D_whole 113 = .ok (.iconst 2, 1) := by decide +kernel
theorem d_D_whole_114 : decode b_D_whole 114 = .ok (.invokevirtual 99, 3) := by decide +kernel
theorem d_D_whole_117 : decode b_D_whole 117 = .ok (.iload 5, 2) := by decide +kernel
theorem d_D_whole_119 : decode b_D_whole 119 = .ok (.if_icmp .ne 7, 3) := by decide +kernel
theorem d_D_whole_122 : decode b_D_whole 122 = .ok (.iconst 1, 1) := by decide +kernel
theorem d_D_whole_123 : decode b_D_whole 123 = .ok (.goto 4, 3) := by decide +kernel
theorem d_D_whole_126 : decode b_D_whole 126 = .ok (.iconst 0, 1) := by decide +kernel
theorem d_D_whole_127 : decode b_D_whole 127 = .ok (.istore 4, 2) := by decide +kernel
theorem d_D_whole_129 : decode b_D_whole 129 = .ok (.iinc 5 1, 3) := by decide +kernel
theorem d_D_whole_132 : decode b_D_whole 132 = .ok (.goto (-72), 3) := by decide +kernel
theorem d_D_whole_135 : decode b_D_whole 135 = .ok (.iload 4, 2) := by decide +kernel
theorem d_D_whole_137 : decode b_D_whole 137 = .ok (.ifCond .eq 5, 3) := by decide +kernel
theorem d_D_whole_140 : decode b_D_whole 140 = .ok (.iload_n 2, 1) := by decide +kernel
theorem d_D_whole_141 : decode b_D_whole 141 = .ok (.ireturn, 1) := by decide +kernel
theorem d_D_whole_142 : decode b_D_whole 142 = .ok (.iinc 2 1, 3) := by decide +kernel
theorem d_D_whole_145 : decode b_D_whole 145 = .ok (.goto (-143), 3) := by decide +kernel
theorem d_D_whole_148 : decode b_D_whole 148 = .ok (.iconst (-1), 1) := by decide +kernel
theorem d_D_whole_149 : decode b_D_whole 149 = .ok (.ireturn, 1) := by decide +kernel
theorem d_D_start_0 : decode b_D_start 0 = .ok (.aload_n 0, 1) := by decide +kernel
theorem d_D_start_1 : decode b_D_start 1 = .ok (.getfield 24, 3) := by decide +kernel
theorem d_D_start_4 : decode b_D_start 4 = .ok (.ifCond .eq 5, 3) := by decide +kernel
theorem d_D_start_7 : decode b_D_start 7 = .ok (.iconst (-1), 1) := by decide +kernel
theorem d_D_start_8 : decode b_D_start 8 = .ok (.ireturn, 1) := by decide +kernel
theorem d_D_start_9 : decode b_D_start 9 = .ok (.aload_n 0, 1) := by decide +kernel
theorem d_D_start_10 : decode b_D_start 10 = .ok (.iconst 1, 1) := by decide +kernel
theorem d_D_start_11 : decode b_D_start 11 = .ok (.putfield 24, 3) := by decide +kernel
theorem d_D_start_14 : decode b_D_start 14 = .ok (.iconst (-1), 1) := by decide +kernel
theorem d_D_start_15 : decode b_D_start 15 = .ok (.istore_n 1, 1) := by decide +kernel
theorem d_D_start_16 : decode b_D_start 16 = .ok (.iconst 0, 1) := by decide +kernel
theorem d_D_start_17 : decode b_D_start 17 = .ok (.istore_n 2, 1) := by decide +kernel
theorem d_D_start_18 : decode b_D_start 18 = .ok (.iload_n 2, 1) := by decide +kernel
theorem d_D_start_19 : decode b_D_start 19 = .ok (.bipush 40, 2) := by decide +kernel
theorem d_D_start_21 : decode b_D_start 21 = .ok (.if_icmp .ge 47, 3) := by decide +kernel
theorem d_D_start_24 : decode b_D_start 24 = .ok (.aload_n 0, 1) := by decide +kernel
theorem d_D_start_25 : decode b_D_start 25 = .ok (.getfield 10, 3) := by decide +kernel
theorem d_D_start_28 : decode b_D_start 28 = .ok (.iload_n 2, 1) := by decide +kernel
theorem d_D_start_29 : decode b_D_start 29 = .ok (.iconst 0, 1) := by decide +kernel
theorem d_D_start_30 : decode b_D_start 30 = .ok (.invokevirtual 106, 3) := by decide +kernel
theorem d_D_start_33 : decode b_D_start 33 = .ok (.istore_n 3, 1) := by decide +kernel
theorem d_D_start_34 : decode b_D_start 34 = .ok (.aload_n 0, 1) := by decide +kernel
theorem d_D_start_35 : decode b_D_start 35 = .ok (.getfield 10, 3) := by decide +kernel
theorem d_D_start_38 : decode b_D_start 38 = .ok (.getfield 61, 3) := by decide +kernel
theorem d_D_start_41 : decode b_D_start 41 = .ok (.iload_n 2, 1) := by decide +kernel
theorem d_D_start_42 : decode b_D_start 42 = .ok (.baload, 1) := by decide +kernel
theorem d_D_start_43 : decode b_D_start 43 = .ok (.ifCond .eq 19, 3) := by decide +kernel
theorem d_D_start_46 : decode b_D_start 46 = .ok (.iload_n 3, 1) := by decide +kernel
theorem d_D_start_47 : decode b_D_start 47 = .ok (.iload_n 1, 1) := by decide +kernel
theorem d_D_start_48 : decode b_D_start 48 = .ok (.if_icmp .le 14, 3) := by decide +kernel
theorem d_D_start_51 : decode b_D_start 51 = .ok (.aload_n 0, 1) := by decide +kernel
theorem d_D_start_52 : decode b_D_start 52 = .ok (.iload_n 3, 1) := by decide +kernel
theorem d_D_start_53 : decode b_D_start 53 = .ok (.invokevirtual 112, 3) := by decide +kernel
theorem d_D_start_56 : decode b_D_start 56 = .ok (.iconst (-1), 1) := by decide +kernel
theorem d_D_start_57 : decode b_D_start 57 = .ok (.if_icmp .eq 5, 3) := by decide +kernel
theorem d_D_start_60 : decode b_D_start 60 = .ok (.iload_n 3, 1) := by decide +kernel
theorem d_D_start_61 : decode b_D_start 61 = .ok (.istore_n 1, 1) := by decide +kernel
theorem d_D_start_62 : decode b_D_start 62 = .ok (.iinc 2 1, 3) := by decide +kernel
theorem d_D_start_65 : decode b_D_start 65 = .ok (.goto (-47), 3) := by decide +kernel
theorem d_D_start_68 : decode b_D_start 68 = .ok (.aload_n 0, 1) := by decide +kernel
theorem d_D_start_69 : decode b_D_start 69 = .ok (.iload_n 1, 1) := by decide +kernel
theorem d_D_start_70 : decode b_D_start 70 = .ok (.iconst 1, 1) := by decide +kernel
theorem d_D_start_71 : decode b_D_start 71 = .ok (.iadd, 1) := by decide +kernel
theorem d_D_start_72 : decode b_D_start 72 = .ok (.putfield 41, 3) := by decide +kernel
theorem d_D_start_75 : decode b_D_start 75 = .ok (.aload_n 0, 1) := by decide +kernel
theorem d_D_start_76 : decode b_D_start 76 = .ok (.iload_n 1, 1) := by decide +kernel
theorem d_D_start_77 : decode b_D_start 77 = .ok (.iconst (-1), 1) := by decide +kernel
theorem d_D_start_78 : decode b_D_start 78 = .ok (.if_icmp .ne 7, 3) := by decide +kernel
theorem d_D_start_81 : decode b_D_start 81 = .ok (.iconst 0, 1) := by decide +kernel
theorem d_D_start_82 : decode b_D_start 82 = .ok (.goto 16, 3) := by decide +kernel
theorem d_D_start_85 : decode b_D_start 85 = .ok (.aload_n 0, 1) := by decide +kernel
theorem d_D_start_86 : decode b_D_start 86 = .ok (.getfield 10, 3) := by decide +kernel
theorem d_D_start_89 : decode b_D_start 89 = .ok (.aload_n 0, 1) := by decide +kernel
theorem d_D_start_90 : decode b_D_start 90 = .ok (.iload_n 1, 1) := by decide +kernel
theorem d_D_start_91 : decode b_D_start 91 = .ok (.invokevirtual 112, 3) := by decide +kernel
theorem d_D_start_94 : decode b_D_start 94 = .ok (.iconst 4, 1) := by decide +kernel
theorem d_D_start_95 : decode b_D_start 95 = .ok (.invokevirtual 106, 3) := by decide +kernel
theorem d_D_start_98 : decode b_D_start 98 = .ok (.putfield 38, 3) := by decide +kernel
theorem d_D_start_101 : decode b_D_start 101 = .ok (.aload_n 0, 1) := by decide +kernel
theorem d_D_start_102 : decode b_D_start 102 = .ok (.iconst 0, 1) := by decide +kernel
theorem d_D_start_103 : decode b_D_start 103 = .ok (.putfield 65, 3) := by decide +kernel
theorem d_D_start_106 : decode b_D_start 106 = .ok (.aload_n 0, 1) := by decide +kernel
theorem d_D_start_107 : decode b_D_start 107 = .ok (.iconst 0, 1) := by decide +kernel
theorem d_D_start_108 : decode b_D_start 108 = .ok (.putfield 58, 3) := by decide +kernel
theorem d_D_start_111 : decode b_D_start 111 = .ok (.aload_n 0, 1) := by decide +kernel
theorem d_D_start_112 : decode b_D_start 112 = .ok (.getfield 38, 3) := by decide +kernel
theorem d_D_start_115 : decode b_D_start 115 = .ok (.istore_n 2, 1) := by decide +kernel
theorem d_D_start_116 : decode b_D_start 116 = .ok (.iload_n 2, 1) := by decide +kernel
theorem d_D_start_117 : decode b_D_start 117 = .ok (.aload_n 0, 1) := by decide +kernel
theorem d_D_start_118 : decode b_D_start 118 = .ok (.getfield 41, 3) := by decide +kernel
theorem d_D_start_121 : decode b_D_start 121 = .ok (.if_icmp .ge 124, 3) := by decide +kernel
theorem d_D_start_124 : decode b_D_start 124 = .ok (.aload_n 0, 1) := by decide +kernel
theorem d_D_start_125 : decode b_D_start 125 = .ok (.iload_n 2, 1) := by decide +kernel
theorem d_D_start_126 : decode b_D_start 126 = .ok (.invokevirtual 112, 3) := by decide +kernel
theorem d_D_start_129 : decode b_D_start 129 = .ok (.istore_n 3, 1) := by decide +kernel
theorem d_D_start_130 : decode b_D_start 130 = .ok (.aload_n 0, 1) := by decide +kernel
theorem d_D_start_131 : decode b_D_start 131 = .ok (.getfield 30, 3) := by decide +kernel
theorem d_D_start_134 : decode b_D_start 134 = .ok (.iload_n 2, 1) := by decide +kernel
theorem d_D_start_135 : decode b_D_start 135 = .ok (.aaload, 1) := by decide +kernel
theorem d_D_start_136 : decode b_D_start 136 = .ok (.astore 4, 2) := by decide +kernel
theorem d_D_start_138 : decode b_D_start 138 = .ok (.aload 4, 2) := by decide +kernel
theorem d_D_start_140 : decode b_D_start 140 = .ok (.iload_n 3, 1) := by decide +kernel
theorem d_D_start_141 : decode b_D_start 141 = .ok (.putfield 68, 3) := by decide +kernel
theorem d_D_start_144 : decode b_D_start 144 = .ok (.aload 4, 2) := by decide +kernel
theorem d_D_start_146 : decode b_D_start 146 = .ok (.aload_n 0, 1) := by decide +kernel
theorem d_D_start_147 : decode b_D_start 147 = .ok (.iload_n 3, 1) := by decide +kernel
theorem d_D_start_148 : decode b_D_start 148 = .ok (.invokevirtual 102, 3) := by decide +kernel
theorem d_D_start_151 : decode b_D_start 151 = .ok (.putfield 71, 3) := by decide +kernel
theorem d_D_start_154 : decode b_D_start 154 = .ok (.aload_n 0, 1) := by decide +kernel
theorem d_D_start_155 : decode b_D_start 155 = .ok (.getfield 10, 3) := by decide +kernel
theorem d_D_start_158 : decode b_D_start 158 = .ok (.iload_n 3, 1) := by decide +kernel
theorem d_D_start_159 : decode b_D_start 159 = .ok (.iconst 3, 1) := by decide +kernel
theorem d_D_start_160 : decode b_D_start 160 = .ok (.invokevirtual 99, 3) := by decide +kernel
theorem d_D_start_163 : decode b_D_start 163 = .ok (.sipush 255, 3) := by decide +kernel
theorem d_D_start_166 : decode b_D_start 166 = .ok (.if_icmp .ne 7, 3) := by decide +kernel
theorem d_D_start_169 : decode b_D_start 169 = .ok (.iconst 1, 1) := by decide +kernel
theorem d_D_start_170 : decode b_D_start 170 = .ok (.goto 4, 3) := by decide +kernel
theorem d_D_start_173 : decode b_D_start 173 = .ok (.iconst 0, 1) := by decide +kernel
theorem d_D_start_174 : decode b_D_start 174 = .ok (.istore 5, 2) := by decide +kernel
theorem d_D_start_176 : decode b_D_start 176 = .ok (.aload 4, 2) := by decide +kernel
theorem d_D_start_178 : decode b_D_start 178 = .ok (.iload 5, 2) := by decide +kernel
theorem d_D_start_180 : decode b_D_start 180 = .ok (.ifCond .eq 7, 3) := by decide +kernel
theorem d_D_start_183 : decode b_D_start 183 = .ok (.iconst (-1), 1) := by decide +kernel
theorem d_D_start_184 : decode b_D_start 184 = .ok (.goto 13, 3) := by decide +kernel
theorem d_D_start_187 : decode b_D_start 187 = .ok (.aload_n 0, 1) := by decide +kernel
theorem d_D_start_188 : decode b_D_start 188 = .ok (.getfield 10, 3) := by decide +kernel
theorem d_D_start_191 : decode b_D_start 191 = .ok (.iload_n 3, 1) := by decide +kernel
theorem d_D_start_192 : decode b_D_start 192 = .ok (.bipush 6, 2) := by decide +kernel
theorem d_D_start_194 : decode b_D_start 194 = .ok (.invokevirtual 106, 3) := by decide +kernel
theorem d_D_start_197 : decode b_D_start 197 = .ok (.putfield 48, 3) := by decide +kernel
theorem d_D_start_200 : decode b_D_start 200 = .ok (.aload_n 0, 1) := by decide +kernel
theorem d_D_start_201 : decode b_D_start 201 = .ok (.iload_n 3, 1) := by decide +kernel
theorem d_D_start_202 : decode b_D_start 202 = .ok (.aload 4, 2) := by decide +kernel
theorem d_D_start_204 : decode b_D_start 204 = .ok (.invokevirtual 44, 3) := by decide +kernel
theorem d_D_start_207 : decode b_D_start 207 = .ok (.iadd, 1) := by decide +kernel
theorem d_D_start_208 : decode b_D_start 208 = .ok (.bipush 40, 2) := by decide +kernel
theorem d_D_start_210 : decode b_D_start 210 = .ok (.irem, 1) := by decide +kernel
theorem d_D_start_211 : decode b_D_start 211 = .ok (.putfield 65, 3) := by decide +kernel
theorem d_D_start_214 : decode b_D_start 214 = .ok (.aload_n 0, 1) := by decide +kernel
theorem d_D_start_215 : decode b_D_start 215 = .ok (.aload_n 0, 1) := by decide +kernel
theorem d_D_start_216 : decode b_D_start 216 = .ok (.getfield 10, 3) := by decide +kernel
theorem d_D_start_219 : decode b_D_start 219 = .ok (.iload_n 3, 1) := by decide +kernel
theorem d_D_start_220 : decode b_D_start 220 = .ok (.bipush 6, 2) := by decide +kernel
theorem d_D_start_222 : decode b_D_start 222 = .ok (.invokevirtual 106, 3) := by decide +kernel
theorem d_D_start_225 : decode b_D_start 225 = .ok (.iload 5, 2) := by decide +kernel
theorem d_D_start_227 : decode b_D_start 227 = .ok (.ifCond .eq 7, 3) := by decide +kernel
theorem d_D_start_230 : decode b_D_start 230 = .ok (.iconst 0, 1) := by decide +kernel
theorem d_D_start_231 : decode b_D_start 231 = .ok (.goto 4, 3) := by decide +kernel
theorem d_D_start_234 : decode b_D_start 234 = .ok (.iconst 1, 1) := by decide +kernel
theorem d_D_start_235 : decode b_D_start 235 = .ok (.iadd, 1) := by decide +kernel
theorem d_D_start_236 : decode b_D_start 236 = .ok (.putfield 58, 3) := by decide +kernel
theorem d_D_start_239 : decode b_D_start 239 = .ok (.iinc 2 1, 3) := by decide +kernel
theorem d_D_start_242 : decode b_D_start 242 = .ok (.goto (-126), 3) := by decide +kernel
theorem d_D_start_245 : decode b_D_start 245 = .ok (.aload_n 0, 1) := by decide +kernel
theorem d_D_start_246 : decode b_D_start 246 = .ok (.invokevirtual 96, 3) := by decide +kernel
theorem d_D_start_249 : decode b_D_start 249 = .ok (.ireturn, 1) := by decide +kernel
end
section
theorem d_D_record_0 : decode b_D_record 0 = .ok (.aload_n 0, 1) := by decide +kernel
theorem d_D_record_1 : decode b_D_record 1 = .ok (.iload_n 1, 1) := by decide +kernel
theorem d_D_record_2 : decode b_D_record 2 = .ok (.invokevirtual 115, 3) := by decide +kernel
theorem d_D_record_5 : decode b_D_record 5 = .ok (.astore_n 3, 1) := by decide +kernel
theorem d_D_record_6 : decode b_D_record 6 = .ok (.aload_n 3, 1) := by decide +kernel
theorem d_D_record_7 : decode b_D_record 7 = .ok (.ifnull 12, 3) := by decide +kernel
theorem d_D_record_10 : decode b_D_record 10 = .ok (.iload_n 2, 1) := by decide +kernel
theorem d_D_record_11 : decode b_D_record 11 = .ok (.ifCond .eq 12, 3) := by decide +kernel
theorem d_D_record_14 : decode b_D_record 14 = .ok (.iload_n 2, 1) := by decide +kernel
theorem d_D_record_15 : decode b_D_record 15 = .ok (.iconst 1, 1) := by decide +kernel
theorem d_D_record_16 : decode b_D_record 16 = .ok (.if_icmp .eq 7, 3) := by decide +kernel
theorem d_D_record_19 : decode b_D_record 19 = .ok (.iconst (-1), 1) := by decide +kernel
theorem d_D_record_20 : decode b_D_record 20 = .ok (.goto 18, 3) := by decide +kernel
theorem d_D_record_23 : decode b_D_record 23 = .ok (.iload_n 2, 1) := by decide +kernel
theorem d_D_record_24 : decode b_D_record 24 = .ok (.ifCond .ne 10, 3) := by decide +kernel
theorem d_D_record_27 : decode b_D_record 27 = .ok (.aload_n 3, 1) := by decide +kernel
theorem d_D_record_28 : decode b_D_record 28 = .ok (.getfield 71, 3) := by decide +kernel
theorem d_D_record_31 : decode b_D_record 31 = .ok (.goto 7, 3) := by decide +kernel
theorem d_D_record_34 : decode b_D_record 34 = .ok (.aload_n 3, 1) := by decide +kernel
theorem d_D_record_35 : decode b_D_record 35 = .ok (.getfield 48, 3) := by decide +kernel
theorem d_D_record_38 : decode b_D_record 38 = .ok (.ireturn, 1) := by decide +kernel
theorem d_D_bytes_0 : decode b_D_bytes 0 = .ok (.aload_n 0, 1) := by decide +kernel
theorem d_D_bytes_1 : decode b_D_bytes 1 = .ok (.iload_n 1, 1) := by decide +kernel
theorem d_D_bytes_2 : decode b_D_bytes 2 = .ok (.invokevirtual 115, 3) := by decide +kernel
theorem d_D_bytes_5 : decode b_D_bytes 5 = .ok (.astore_n 3, 1) := by decide +kernel
theorem d_D_bytes_6 : decode b_D_bytes 6 = .ok (.aload_n 3, 1) := by decide +kernel
theorem d_D_bytes_7 : decode b_D_bytes 7 = .ok (.ifnull 7, 3) := by decide +kernel
theorem d_D_bytes_10 : decode b_D_bytes 10 = .ok (.iload_n 2, 1) := by decide +kernel
theorem d_D_bytes_11 : decode b_D_bytes 11 = .ok (.ifCond .ge 7, 3) := by decide +kernel
theorem d_D_bytes_14 : decode b_D_bytes 14 = .ok (.ldc2_w 119, 3) := by decide +kernel
theorem d_D_bytes_17 : decode b_D_bytes 17 = .ok (.lreturn, 1) := by decide +kernel
theorem d_D_bytes_18 : decode b_D_bytes 18 = .ok (.lconst 0, 1) := by decide +kernel
theorem d_D_bytes_19 : decode b_D_bytes 19 = .ok (.lstore 4, 2) := by decide +kernel
theorem d_D_bytes_21 : decode b_D_bytes 21 = .ok (.iconst 0, 1) := by decide +kernel
theorem d_D_bytes_22 : decode b_D_bytes 22 = .ok (.istore 6, 2) := by decide +kernel
theorem d_D_bytes_24 : decode b_D_bytes 24 = .ok (.iload 6, 2) := by decide +kernel
theorem d_D_bytes_26 : decode b_D_bytes 26 = .ok (.bipush 8, 2) := by decide +kernel
theorem d_D_bytes_28 : decode b_D_bytes 28 = .ok (.if_icmp .ge 85, 3) := by decide +kernel
theorem d_D_bytes_31 : decode b_D_bytes 31 = .ok (.iload_n 2, 1) := by decide +kernel
theorem d_D_bytes_32 : decode b_D_bytes 32 = .ok (.iload 6, 2) := by decide +kernel
theorem d_D_bytes_34 : decode b_D_bytes 34 = .ok (.iadd, 1) := by decide +kernel
theorem d_D_bytes_35 : decode b_D_bytes 35 = .ok (.istore 7, 2) := by decide +kernel
theorem d_D_bytes_37 : decode b_D_bytes 37 = .ok (.iload_n 2, 1) := by decide +kernel
theorem d_D_bytes_38 : decode b_D_bytes 38 = .ok (.aload_n 3, 1) := by decide +kernel
theorem d_D_bytes_39 : decode b_D_bytes 39 = .ok (.getfield 71, 3) := by decide +kernel
theorem d_D_bytes_42 : decode b_D_bytes 42 = .ok (.if_icmp .ge 16, 3) := by decide +kernel
theorem d_D_bytes_45 : decode b_D_bytes 45 = .ok (.iload 7, 2) := by decide +kernel
theorem d_D_bytes_47 : decode b_D_bytes 47 = .ok (.aload_n 3, 1) := by decide +kernel
theorem d_D_bytes_48 : decode b_D_bytes 48 = .ok (.getfield 71, 3) := by decide +kernel
theorem d_D_bytes_51 : decode b_D_bytes 51 = .ok (.if_icmp .ge 7, 3) := by decide +kernel
theorem d_D_bytes_54 : decode b_D_bytes 54 = .ok (.iconst 1, 1) := by decide +kernel
theorem d_D_bytes_55 : decode b_D_bytes 55 = .ok (.goto 4, 3) := by decide +kernel
theorem d_D_bytes_58 : decode b_D_bytes 58 = .ok (.iconst 0, 1) := by decide +kernel
theorem d_D_bytes_59 : decode b_D_bytes 59 = .ok (.istore 8, 2) := by decide +kernel
theorem d_D_bytes_61 : decode b_D_bytes 61 = .ok (.lload 4, 2) := by decide +kernel
theorem d_D_bytes_63 : decode b_D_bytes 63 = .ok (.bipush 8, 2) := by decide +kernel
theorem d_D_bytes_65 : decode b_D_bytes 65 = .ok (.lshl, 1) := by decide +kernel
theorem d_D_bytes_66 : decode b_D_bytes 66 = .ok (.iload 8, 2) := by decide +kernel
theorem d_D_bytes_68 : decode b_D_bytes 68 = .ok (.ifCond .eq 34, 3) := by decide +kernel
theorem d_D_bytes_71 : decode b_D_bytes 71 = .ok (.aload_n 0, 1) := by decide +kernel
theorem d_D_bytes_72 : decode b_D_bytes 72 = .ok (.getfield 10, 3) := by decide +kernel
theorem d_D_bytes_75 : decode b_D_bytes 75 = .ok (.aload_n 3, 1) := by decide +kernel
theorem d_D_bytes_76 : decode b_D_bytes 76 = .ok (.getfield 68, 3) := by decide +kernel
theorem d_D_bytes_79 : decode b_D_bytes 79 = .ok (.iload 7, 2) := by decide +kernel
theorem d_D_bytes_81 : decode b_D_bytes 81 = .ok (.bipush 12, 2) := by decide +kernel
theorem d_D_bytes_83 : decode b_D_bytes 83 = .ok (.idiv, 1) := by decide +kernel
theorem d_D_bytes_84 : decode b_D_bytes 84 = .ok (.iadd, 1) := by decide +kernel
theorem d_D_bytes_85 : decode b_D_bytes 85 = .ok (.bipush 40, 2) := by decide +kernel
theorem d_D_bytes_87 : decode b_D_bytes 87 = .ok (.irem, 1) := by decide +kernel
theorem d_D_bytes_88 : decode b_D_bytes 88 = .ok (.bipush 8, 2) := by decide +kernel
theorem d_D_bytes_90 : decode b_D_bytes 90 = .ok (.iload 7, 2) := by decide +kernel
theorem d_D_bytes_92 : decode b_D_bytes 92 = .ok (.bipush 12, 2) := by decide +kernel
theorem d_D_bytes_94 : decode b_D_bytes 94 = .ok (.irem, 1) := by decide +kernel
theorem d_D_bytes_95 : decode b_D_bytes 95 = .ok (.iadd, 1) := by decide +kernel
theorem d_D_bytes_96 : decode b_D_bytes 96 = .ok (.invokevirtual 99, 3) := by decide +kernel
theorem d_D_bytes_99 : decode b_D_bytes 99 = .ok (.goto 4, 3) := by decide +kernel
theorem d_D_bytes_102 : decode b_D_bytes 102 = .ok (.iconst 0, 1) := by decide +kernel
theorem d_D_bytes_103 : decode b_D_bytes 103 = .ok (.i2l, 1) := by decide +kernel
theorem d_D_bytes_104 : decode b_D_bytes 104 = .ok (.lor, 1) := by decide +kernel
theorem d_D_bytes_105 : decode b_D_bytes 105 = .ok (.lstore 4, 2) := by decide +kernel
theorem d_D_bytes_107 : decode b_D_bytes 107 = .ok (.iinc 6 1, 3) := by decide +kernel
theorem d_D_bytes_110 : decode b_D_bytes 110 = .ok (.goto (-86), 3) := by decide +kernel
theorem d_D_bytes_113 : decode b_D_bytes 113 = .ok (.lload 4, 2) := by decide +kernel
theorem d_D_bytes_115 : decode b_D_bytes 115 = .ok (.lreturn, 1) := by decide +kernel
theorem d_D_count_0 : decode b_D_count 0 = .ok (.iload_n 1, 1) := by decide +kernel
theorem d_D_count_1 : decode b_D_count 1 = .ok (.tableswitch 90 0 4 #[35, 40, 56, 72, 77], 35) := by decide +kernel
theorem d_D_count_36 : decode b_D_count 36 = .ok (.aload_n 0, 1) := by decide +kernel
theorem d_D_count_37 : decode b_D_count 37 = .ok (.getfield 35, 3) := by decide +kernel
theorem d_D_count_40 : decode b_D_count 40 = .ok (.ireturn, 1) := by decide +kernel
theorem d_D_count_41 : decode b_D_count 41 = .ok (.aload_n 0, 1) := by decide +kernel
theorem d_D_count_42 : decode b_D_count 42 = .ok (.getfield 24, 3) := by decide +kernel
theorem d_D_count_45 : decode b_D_count 45 = .ok (.ifCond .eq 10, 3) := by decide +kernel
theorem d_D_count_48 : decode b_D_count 48 = .ok (.aload_n 0, 1) := by decide +kernel
theorem d_D_count_49 : decode b_D_count 49 = .ok (.invokevirtual 96, 3) := by decide +kernel
theorem d_D_count_52 : decode b_D_count 52 = .ok (.goto 4, 3) := by decide +kernel
theorem d_D_count_55 : decode b_D_count 55 = .ok (.iconst 0, 1) := by decide +kernel
theorem d_D_count_56 : decode b_D_count 56 = .ok (.ireturn, 1) := by decide +kernel
theorem d_D_count_57 : decode b_D_count 57 = .ok (.aload_n 0, 1) := by decide +kernel
theorem d_D_count_58 : decode b_D_count 58 = .ok (.getfield 24, 3) := by decide +kernel
theorem d_D_count_61 : decode b_D_count 61 = .ok (.ifCond .eq 10, 3) := by decide +kernel
theorem d_D_count_64 : decode b_D_count 64 = .ok (.aload_n 0, 1) := by decide +kernel
theorem d_D_count_65 : decode b_D_count 65 = .ok (.invokevirtual 82, 3) := by decide +kernel
theorem d_D_count_68 : decode b_D_count 68 = .ok (.goto 4, 3) := by decide +kernel
theorem d_D_count_71 : decode b_D_count 71 = .ok (.iconst 0, 1) := by decide +kernel
theorem d_D_count_72 : decode b_D_count 72 = .ok (.ireturn, 1) := by decide +kernel
theorem d_D_count_73 : decode b_D_count 73 = .ok (.aload_n 0, 1) := by decide +kernel
theorem d_D_count_74 : decode b_D_count 74 = .ok (.getfield 41, 3) := by decide +kernel
theorem d_D_count_77 : decode b_D_count 77 = .ok (.ireturn, 1) := by decide +kernel
theorem d_D_count_78 : decode b_D_count 78 = .ok (.aload_n 0, 1) := by decide +kernel
theorem d_D_count_79 : decode b_D_count 79 = .ok (.getfield 24, 3) := by decide +kernel
theorem d_D_count_82 : decode b_D_count 82 = .ok (.ifCond .eq 7, 3) := by decide +kernel
theorem d_D_count_85 : decode b_D_count 85 = .ok (.iconst 1, 1) := by decide +kernel
theorem d_D_count_86 : decode b_D_count 86 = .ok (.goto 4, 3) := by decide +kernel
theorem d_D_count_89 : decode b_D_count 89 = .ok (.iconst 0, 1) := by decide +kernel
theorem d_D_count_90 : decode b_D_count 90 = .ok (.ireturn, 1) := by decide +kernel
theorem d_D_count_91 : decode b_D_count 91 = .ok (.iconst (-1), 1) := by decide +kernel
theorem d_D_count_92 : decode b_D_count 92 = .ok (.ireturn, 1) := by decide +kernel
theorem d_M_init_0 : decode b_M_init 0 = .ok (.aload_n 0, 1) := by decide +kernel
theorem d_M_init_1 : decode b_M_init 1 = .ok (.invokespecial 1, 3) := by decide +kernel
theorem d_M_init_4 : decode b_M_init 4 = .ok (.aload_n 0, 1) := by decide +kernel
theorem d_M_init_5 : decode b_M_init 5 = .ok (.bipush 100, 2) := by decide +kernel
theorem d_M_init_7 : decode b_M_init 7 = .ok (.newarray .int, 2) := by decide +kernel
theorem d_M_init_9 : decode b_M_init 9 = .ok (.putfield 7, 3) := by decide +kernel
theorem d_M_init_12 : decode b_M_init 12 = .ok (.aload_n 0, 1) := by decide +kernel
theorem d_M_init_13 : decode b_M_init 13 = .ok (.bipush 41, 2) := by decide +kernel
theorem d_M_init_15 : decode b_M_init 15 = .ok (.newarray .boolean, 2) := by decide +kernel
theorem d_M_init_17 : decode b_M_init 17 = .ok (.putfield 13, 3) := by decide +kernel
theorem d_M_init_20 : decode b_M_init 20 = .ok (.aload_n 0, 1) := by decide +kernel
theorem d_M_init_21 : decode b_M_init 21 = .ok (.bipush 41, 2) := by decide +kernel
theorem d_M_init_23 : decode b_M_init 23 = .ok (.newarray .int, 2) := by decide +kernel
theorem d_M_init_25 : decode b_M_init 25 = .ok (.putfield 17, 3) := by decide +kernel
theorem d_M_init_28 : decode b_M_init 28 = .ok (.aload_n 0, 1) := by decide +kernel
theorem d_M_init_29 : decode b_M_init 29 = .ok (.bipush 41, 2) := by decide +kernel
theorem d_M_init_31 : decode b_M_init 31 = .ok (.newarray .int, 2) := by decide +kernel
theorem d_M_init_33 : decode b_M_init 33 = .ok (.putfield 20, 3) := by decide +kernel
theorem d_M_init_36 : decode b_M_init 36 = .ok (.aload_n 0, 1) := by decide +kernel
theorem d_M_init_37 : decode b_M_init 37 = .ok (.sipush 4100, 3) := by decide +kernel
theorem d_M_init_40 : decode b_M_init 40 = .ok (.newarray .int, 2) := by decide +kernel
theorem d_M_init_42 : decode b_M_init 42 = .ok (.putfield 23, 3) := by decide +kernel
theorem d_M_init_45 : decode b_M_init 45 = .ok (.aload_n 0, 1) := by decide +kernel
theorem d_M_init_46 : decode b_M_init 46 = .ok (.iconst (-1), 1) := by decide +kernel
theorem d_M_init_47 : decode b_M_init 47 = .ok (.putfield 26, 3) := by decide +kernel
theorem d_M_init_50 : decode b_M_init 50 = .ok (.return_, 1) := by decide +kernel
theorem d_M_put_0 : decode b_M_put 0 = .ok (.iload_n 3, 1) := by decide +kernel
theorem d_M_put_1 : decode b_M_put 1 = .ok (.iconst 1, 1) := by decide +kernel
theorem d_M_put_2 : decode b_M_put 2 = .ok (.if_icmp .lt 20, 3) := by decide +kernel
theorem d_M_put_5 : decode b_M_put 5 = .ok (.iload_n 3, 1) := by decide +kernel
theorem d_M_put_6 : decode b_M_put 6 = .ok (.bipush 8, 2) := by decide +kernel
theorem d_M_put_8 : decode b_M_put 8 = .ok (.if_icmp .gt 14, 3) := by decide +kernel
theorem d_M_put_11 : decode b_M_put 11 = .ok (.aload_n 0, 1) := by decide +kernel
theorem d_M_put_12 : decode b_M_put 12 = .ok (.getfield 30, 3) := by decide +kernel
theorem d_M_put_15 : decode b_M_put 15 = .ok (.iload_n 3, 1) := by decide +kernel
theorem d_M_put_16 : decode b_M_put 16 = .ok (.iadd, 1) := by decide +kernel
theorem d_M_put_17 : decode b_M_put 17 = .ok (.bipush 100, 2) := by decide +kernel
theorem d_M_put_19 : decode b_M_put 19 = .ok (.if_icmp .le 5, 3) := by decide +kernel
theorem d_M_put_22 : decode b_M_put 22 = .ok (.iconst 0, 1) := by decide +kernel
theorem d_M_put_23 : decode b_M_put 23 = .ok (.ireturn, 1) := by decide +kernel
theorem d_M_put_24 : decode b_M_put 24 = .ok (.iload_n 3, 1) := by decide +kernel
theorem d_M_put_25 : decode b_M_put 25 = .ok (.iconst 1, 1) := by decide +kernel
theorem d_M_put_26 : decode b_M_put 26 = .ok (.isub, 1) := by decide +kernel
theorem d_M_put_27 : decode b_M_put 27 = .ok (.istore 4, 2) := by decide +kernel
theorem d_M_put_29 : decode b_M_put 29 = .ok (.iload 4, 2) := by decide +kernel
theorem d_M_put_31 : decode b_M_put 31 = .ok (.ifCond .lt 40, 3) := by decide +kernel
theorem d_M_put_34 : decode b_M_put 34 = .ok (.aload_n 0, 1) := by decide +kernel
theorem d_M_put_35 : decode b_M_put 35 = .ok (.getfield 7, 3) := by decide +kernel
theorem d_M_put_38 : decode b_M_put 38 = .ok (.aload_n 0, 1) := by decide +kernel
theorem d_M_put_39 : decode b_M_put 39 = .ok (.getfield 30, 3) := by decide +kernel
theorem d_M_put_42 : decode b_M_put 42 = .ok (.lload_n 1, 1) := by decide +kernel
theorem d_M_put_43 : decode b_M_put 43 = .ok (.bipush 8, 2) := by decide +kernel
theorem d_M_put_45 : decode b_M_put 45 = .ok (.iload 4, 2) := by decide +kernel
theorem d_M_put_47 : decode b_M_put 47 = .ok (.imul, 1) := by decide +kernel
theorem d_M_put_48 : decode b_M_put 48 = .ok (.lshr, 1) := by decide +kernel
theorem d_M_put_49 : decode b_M_put 49 = .ok (.l2i, 1) := by decide +kernel
theorem d_M_put_50 : decode b_M_put 50 = .ok (.sipush 255, 3) := by decide +kernel
theorem d_M_put_53 : decode b_M_put 53 = .ok (.iand, 1) := by decide +kernel
theorem d_M_put_54 : decode b_M_put 54 = .ok (.iastore, 1) := by decide +kernel
theorem d_M_put_55 : decode b_M_put 55 = .ok (.aload_n 0, 1) := by decide +kernel
theorem d_M_put_56 : decode b_M_put 56 = .ok (.aload_n 0, 1) := by decide +kernel
theorem d_M_put_57 : decode b_M_put 57 = .ok (.getfield 30, 3) := by decide +kernel
theorem d_M_put_60 : decode b_M_put 60 = .ok (.iconst 1, 1) := by decide +kernel
theorem d_M_put_61 : decode b_M_put 61 = .ok (.iadd, 1) := by decide +kernel
theorem d_M_put_62 : decode b_M_put 62 = .ok (.putfield 30, 3) := by decide +kernel
theorem d_M_put_65 : decode b_M_put 65 = .ok (.iinc 4 (-1), 3) := by decide +kernel
theorem d_M_put_68 : decode b_M_put 68 = .ok (.goto (-39), 3) := by decide +kernel
theorem d_M_put_71 : decode b_M_put 71 = .ok (.iconst 1, 1) := by decide +kernel
theorem d_M_put_72 : decode b_M_put 72 = .ok (.ireturn, 1) := by decide +kernel
theorem d_M_sectorsOf_0 : decode b_M_sectorsOf 0 = .ok (.iload_n 0, 1) := by decide +kernel
theorem d_M_sectorsOf_1 : decode b_M_sectorsOf 1 = .ok (.bipush 12, 2) := by decide +kernel
theorem d_M_sectorsOf_3 : decode b_M_sectorsOf 3 = .ok (.if_icmp .gt 7, 3) := by decide +kernel
theorem d_M_sectorsOf_6 : decode b_M_sectorsOf 6 = .ok (.iconst 1, 1) := by decide +kernel
theorem d_M_sectorsOf_7 : decode b_M_sectorsOf 7 = .ok (.goto 15, 3) := by decide +kernel
theorem d_M_sectorsOf_10 : decode b_M_sectorsOf 10 = .ok (.iconst 1, 1) := by decide +kernel
theorem d_M_sectorsOf_11 : decode b_M_sectorsOf 11 = .ok (.iload_n 0, 1) := by decide +kernel
theorem d_M_sectorsOf_12 : decode b_M_sectorsOf 12 = .ok (.bipush 12, 2) := by decide +kernel
theorem d_M_sectorsOf_14 : decode b_M_sectorsOf 14 = .ok (.isub, 1) := by decide +kernel
theorem d_M_sectorsOf_15 : decode b_M_sectorsOf 15 = .ok (.bipush 11, 2) := by decide +kernel
theorem d_M_sectorsOf_17 : decode b_M_sectorsOf 17 = .ok (.iadd, 1) := by decide +kernel
theorem d_M_sectorsOf_18 : decode b_M_sectorsOf 18 = .ok (.bipush 12, 2) := by decide +kernel
theorem d_M_sectorsOf_20 : decode b_M_sectorsOf 20 = .ok (.idiv, 1) := by decide +kernel
theorem d_M_sectorsOf_21 : decode b_M_sectorsOf 21 = .ok (.iadd, 1) := by decide +kernel
theorem d_M_sectorsOf_22 : decode b_M_sectorsOf 22 = .ok (.ireturn, 1) := by decide +kernel
theorem d_M_used_0 : decode b_M_used 0 = .ok (.iconst 0, 1) := by decide +kernel
theorem d_M_used_1 : decode b_M_used 1 = .ok (.istore_n 1, 1) := by decide +kernel
theorem d_M_used_2 : decode b_M_used 2 = .ok (.iconst 0, 1) := by decide +kernel
theorem d_M_used_3 : decode b_M_used 3 = .ok (.istore_n 2, 1) := by decide +kernel
theorem d_M_used_4 : decode b_M_used 4 = .ok (.iload_n 2, 1) := by decide +kernel
theorem d_M_used_5 : decode b_M_used 5 = .ok (.aload_n 0, 1) := by decide +kernel
theorem d_M_used_6 : decode b_M_used 6 = .ok (.getfield 33, 3) := by decide +kernel
theorem d_M_used_9 : decode b_M_used 9 = .ok (.if_icmp .ge 34, 3) := by decide +kernel
theorem d_M_used_12 : decode b_M_used 12 = .ok (.iload_n 1, 1) := by decide +kernel
theorem d_M_used_13 : decode b_M_used 13 = .ok (.aload_n 0, 1) := by decide +kernel
theorem d_M_used_14 : decode b_M_used 14 = .ok (.getfield 13, 3) := by decide +kernel
theorem d_M_used_17 : decode b_M_used 17 = .ok (.iload_n 2, 1) := by decide +kernel
theorem d_M_used_18 : decode b_M_used 18 = .ok (.baload, 1) := by decide +kernel
theorem d_M_used_19 : decode b_M_used 19 = .ok (.ifCond .eq 15, 3) := by decide +kernel
theorem d_M_used_22 : decode b_M_used 22 = .ok (.aload_n 0, 1) := by decide +kernel
theorem d_M_used_23 : decode b_M_used 23 = .ok (.getfield 17, 3) := by decide +kernel
theorem d_M_used_26 : decode b_M_used 26 = .ok (.iload_n 2, 1) := by decide +kernel
theorem d_M_used_27 : decode b_M_used 27 = .ok (.iaload, 1) := by decide +kernel
theorem d_M_used_28 : decode b_M_used 28 = .ok (.invokestatic 36, 3) := by decide +kernel
theorem d_M_used_31 : decode b_M_used 31 = .ok (.goto 4, 3) := by decide +kernel
theorem d_M_used_34 : decode b_M_used 34 = .ok (.iconst 1, 1) := by decide +kernel
theorem d_M_used_35 : decode b_M_used 35 = .ok (.iadd, 1) := by decide +kernel
theorem d_M_used_36 : decode b_M_used 36 = .ok (.istore_n 1, 1) := by decide +kernel
theorem d_M_used_37 : decode b_M_used 37 = .ok (.iinc 2 1, 3) := by decide +kernel
theorem d_M_used_40 : decode b_M_used 40 = .ok (.goto (-36), 3) := by decide +kernel
theorem d_M_used_43 : decode b_M_used 43 = .ok (.iload_n 1, 1) := by decide +kernel
theorem d_M_used_44 : decode b_M_used 44 = .ok (.ireturn, 1) := by decide +kernel
theorem d_M_records_0 : decode b_M_records 0 = .ok (.iconst 0, 1) := by decide +kernel
theorem d_M_records_1 : decode b_M_records 1 = .ok (.istore_n 1, 1) := by decide +kernel
theorem d_M_records_2 : decode b_M_records 2 = .ok (.iconst 0, 1) := by decide +kernel
theorem d_M_records_3 : decode b_M_records 3 = .ok (.istore_n 2, 1) := by decide +kernel
theorem d_M_records_4 : decode b_M_records 4 = .ok (.iload_n 2, 1) := by decide +kernel
theorem d_M_records_5 : decode b_M_records 5 = .ok (.aload_n 0, 1) := by decide +kernel
theorem d_M_records_6 : decode b_M_records 6 = .ok (.getfield 33, 3) := by decide +kernel
theorem d_M_records_9 : decode b_M_records 9 = .ok (.if_icmp .ge 26, 3) := by decide +kernel
theorem d_M_records_12 : decode b_M_records 12 = .ok (.aload_n 0, 1) := by decide +kernel
theorem d_M_records_13 : decode b_M_records 13 = .ok (.getfield 13, 3) := by decide +kernel
theorem d_M_records_16 : decode b_M_records 16 = .ok (.iload_n 2, 1) := by decide +kernel
theorem d_M_records_17 : decode b_M_records 17 = .ok (.baload, 1) := by decide +kernel
theorem d_M_records_18 : decode b_M_records 18 = .ok (.ifCond .eq 9, 3) := by decide +kernel
theorem d_M_records_21 : decode b_M_records 21 = .ok (.iload_n 1, 1) := by decide +kernel
theorem d_M_records_22 : decode b_M_records 22 = .ok (.iconst 1, 1) := by decide +kernel
theorem d_M_records_23 : decode b_M_records 23 = .ok (.iadd, 1) := by decide +kernel
theorem d_M_records_24 : decode b_M_records 24 = .ok (.goto 4, 3) := by decide +kernel
theorem d_M_records_27 : decode b_M_records 27 = .ok (.iload_n 1, 1) := by decide +kernel
theorem d_M_records_28 : decode b_M_records 28 = .ok (.istore_n 1, 1) := by decide +kernel
theorem d_M_records_29 : decode b_M_records 29 = .ok (.iinc 2 1, 3) := by decide +kernel
theorem d_M_records_32 : decode b_M_records 32 = .ok (.goto (-28), 3) := by decide +kernel
theorem d_M_records_35 : decode b_M_records 35 = .ok (.iload_n 1, 1) := by decide +kernel
theorem d_M_records_36 : decode b_M_records 36 = .ok (.ireturn, 1) := by decide +kernel
theorem d_M_isCut_0 : decode b_M_isCut 0 = .ok (.aload_n 0, 1) := by decide +kernel
theorem d_M_isCut_1 : decode b_M_isCut 1 = .ok (.getfield 26, 3) := by decide +kernel
theorem d_M_isCut_4 : decode b_M_isCut 4 = .ok (.iconst (-1), 1) := by decide +kernel
theorem d_M_isCut_5 : decode b_M_isCut 5 = .ok (.if_icmp .ne 5, 3) := by decide +kernel
theorem d_M_isCut_8 : decode b_M_isCut 8 = .ok (.iconst 0, 1) := by decide +kernel
theorem d_M_isCut_9 : decode b_M_isCut 9 = .ok (.ireturn, 1) := by decide +kernel
theorem d_M_isCut_10 : decode b_M_isCut 10 = .ok (.aload_n 0, 1) := by decide +kernel
theorem d_M_isCut_11 : decode b_M_isCut 11 = .ok (.iconst (-1), 1) := by decide +kernel
theorem d_M_isCut_12 : decode b_M_isCut 12 = .ok (.putfield 26, 3) := by decide +kernel
theorem d_M_isCut_15 : decode b_M_isCut 15 = .ok (.aload_n 0, 1) := by decide +kernel
theorem d_M_isCut_16 : decode b_M_isCut 16 = .ok (.iconst 1, 1) := by decide +kernel
theorem d_M_isCut_17 : decode b_M_isCut 17 = .ok (.putfield 40, 3) := by decide +kernel
theorem d_M_isCut_20 : decode b_M_isCut 20 = .ok (.iconst 1, 1) := by decide +kernel
theorem d_M_isCut_21 : decode b_M_isCut 21 = .ok (.ireturn, 1) := by decide +kernel
theorem d_M_write_0 : decode b_M_write 0 = .ok (.aload_n 0, 1) := by decide +kernel
theorem d_M_write_1 : decode b_M_write 1 = .ok (.getfield 40, 3) := by decide +kernel
theorem d_M_write_4 : decode b_M_write 4 = .ok (.ifCond .ne 20, 3) := by decide +kernel
theorem d_M_write_7 : decode b_M_write 7 = .ok (.aload_n 0, 1) := by decide +kernel
theorem d_M_write_8 : decode b_M_write 8 = .ok (.invokevirtual 44, 3) := by decide +kernel
theorem d_M_write_11 : decode b_M_write 11 = .ok (.aload_n 0, 1) := by decide +kernel
theorem d_M_write_12 : decode b_M_write 12 = .ok (.getfield 30, 3) := by decide +kernel
theorem d_M_write_15 : decode b_M_write 15 = .ok (.invokestatic 36, 3) := by decide +kernel
theorem d_M_write_18 : decode b_M_write 18 = .ok (.iadd, 1) := by decide +kernel
theorem d_M_write_19 : decode b_M_write 19 = .ok (.bipush 40, 2) := by decide +kernel
theorem d_M_write_21 : decode b_M_write 21 = .ok (.if_icmp .le 5, 3) := by decide +kernel
theorem d_M_write_24 : decode b_M_write 24 = .ok (.iconst (-1), 1) := by decide +kernel
theorem d_M_write_25 : decode b_M_write 25 = .ok (.ireturn, 1) := by decide +kernel
theorem d_M_write_26 : decode b_M_write 26 = .ok (.aload_n 0, 1) := by decide +kernel
theorem d_M_write_27 : decode b_M_write 27 = .ok (.getfield 30, 3) := by decide +kernel
theorem d_M_write_30 : decode b_M_write 30 = .ok (.istore_n 1, 1) := by decide +kernel
theorem d_M_write_31 : decode b_M_write 31 = .ok (.aload_n 0, 1) := by decide +kernel
theorem d_M_write_32 : decode b_M_write 32 = .ok (.iconst 0, 1) := by decide +kernel
theorem d_M_write_33 : decode b_M_write 33 = .ok (.putfield 30, 3) := by decide +kernel
theorem d_M_write_36 : decode b_M_write 36 = .ok (.aload_n 0, 1) := by decide +kernel
theorem d_M_write_37 : decode b_M_write 37 = .ok (.invokevirtual 48, 3) := by decide +kernel
theorem d_M_write_40 : decode b_M_write 40 = .ok (.ifCond .eq 6, 3) := by decide +kernel
theorem d_M_write_43 : decode b_M_write 43 = .ok (.bipush (-2), 2) := by decide +kernel
theorem d_M_write_45 : decode b_M_write 45 = .ok (.ireturn, 1) := by decide +kernel
theorem d_M_write_46 : decode b_M_write 46 = .ok (.aload_n 0, 1) := by decide +kernel
theorem d_M_write_47 : decode b_M_write 47 = .ok (.getfield 13, 3) := by decide +kernel
theorem d_M_write_50 : decode b_M_write 50 = .ok (.aload_n 0, 1) := by decide +kernel
theorem d_M_write_51 : decode b_M_write 51 = .ok (.getfield 33, 3) := by decide +kernel
theorem d_M_write_54 : decode b_M_write 54 = .ok (.iconst 1, 1) := by decide +kernel
theorem d_M_write_55 : decode b_M_write 55 = .ok (.bastore, 1) := by decide +kernel
theorem d_M_write_56 : decode b_M_write 56 = .ok (.aload_n 0, 1) := by decide +kernel
theorem d_M_write_57 : decode b_M_write 57 = .ok (.getfield 17, 3) := by decide +kernel
theorem d_M_write_60 : decode b_M_write 60 = .ok (.aload_n 0, 1) := by decide +kernel
theorem d_M_write_61 : decode b_M_write 61 = .ok (.getfield 33, 3) := by decide +kernel
theorem d_M_write_64 : decode b_M_write 64 = .ok (.iload_n 1, 1) := by decide +kernel
theorem d_M_write_65 : decode b_M_write 65 = .ok (.iastore, 1) := by decide +kernel
theorem d_M_write_66 : decode b_M_write 66 = .ok (.aload_n 0, 1) := by decide +kernel
theorem d_M_write_67 : decode b_M_write 67 = .ok (.getfield 20, 3) := by decide +kernel
theorem d_M_write_70 : decode b_M_write 70 = .ok (.aload_n 0, 1) := by decide +kernel
theorem d_M_write_71 : decode b_M_write 71 = .ok (.getfield 33, 3) := by decide +kernel
theorem d_M_write_74 : decode b_M_write 74 = .ok (.aload_n 0, 1) := by decide +kernel
theorem d_M_write_75 : decode b_M_write 75 = .ok (.getfield 52, 3) := by decide +kernel
theorem d_M_write_78 : decode b_M_write 78 = .ok (.iastore, 1) := by decide +kernel
theorem d_M_write_79 : decode b_M_write 79 = .ok (.iconst 0, 1) := by decide +kernel
theorem d_M_write_80 : decode b_M_write 80 = .ok (.istore_n 2, 1) := by decide +kernel
theorem d_M_write_81 : decode b_M_write 81 = .ok (.iload_n 2, 1) := by decide +kernel
theorem d_M_write_82 : decode b_M_write 82 = .ok (.iload_n 1, 1) := by decide +kernel
theorem d_M_write_83 : decode b_M_write 83 = .ok (.if_icmp .ge 29, 3) := by decide +kernel
theorem d_M_write_86 : decode b_M_write 86 = .ok (.aload_n 0, 1) := by decide +kernel
theorem d_M_write_87 : decode b_M_write 87 = .ok (.getfield 23, 3) := by decide +kernel
theorem d_M_write_90 : decode b_M_write 90 = .ok (.bipush 100, 2) := by decide +kernel
theorem d_M_write_92 : decode b_M_write 92 = .ok (.aload_n 0, 1) := by decide +kernel
theorem d_M_write_93 : decode b_M_write 93 = .ok (.getfield 33, 3) := by decide +kernel
theorem d_M_write_96 : decode b_M_write 96 = .ok (.imul, 1) := by decide +kernel
theorem d_M_write_97 : decode b_M_write 97 = .ok (.iload_n 2, 1) := by decide +kernel
theorem d_M_write_98 : decode b_M_write 98 = .ok (.iadd, 1) := by decide +kernel
theorem d_M_write_99 : decode b_M_write 99 = .ok (.aload_n 0, 1) := by decide +kernel
theorem d_M_write_100 : decode b_M_write 100 = .ok (.getfield 7, 3) := by decide +kernel
theorem d_M_write_103 : decode b_M_write 103 = .ok (.iload_n 2, 1) := by decide +kernel
theorem d_M_write_104 : decode b_M_write 104 = .ok (.iaload, 1) := by decide +kernel
theorem d_M_write_105 : decode b_M_write 105 = .ok (.iastore, 1) := by decide +kernel
theorem d_M_write_106 : decode b_M_write 106 = .ok (.iinc 2 1, 3) := by decide +kernel
theorem d_M_write_109 : decode b_M_write 109 = .ok (.goto (-28), 3) := by decide +kernel
theorem d_M_write_112 : decode b_M_write 112 = .ok (.aload_n 0, 1) := by decide +kernel
theorem d_M_write_113 : decode b_M_write 113 = .ok (.aload_n 0, 1) := by decide +kernel
theorem d_M_write_114 : decode b_M_write 114 = .ok (.getfield 33, 3) := by decide +kernel
theorem d_M_write_117 : decode b_M_write 117 = .ok (.iconst 1, 1) := by decide +kernel
theorem d_M_write_118 : decode b_M_write 118 = .ok (.iadd, 1) := by decide +kernel
theorem d_M_write_119 : decode b_M_write 119 = .ok (.putfield 33, 3) := by decide +kernel
theorem d_M_write_122 : decode b_M_write 122 = .ok (.aload_n 0, 1) := by decide +kernel
theorem d_M_write_123 : decode b_M_write 123 = .ok (.aload_n 0, 1) := by decide +kernel
theorem d_M_write_124 : decode b_M_write 124 = .ok (.getfield 52, 3) := by decide +kernel
theorem d_M_write_127 : decode b_M_write 127 = .ok (.iconst 1, 1) := by decide +kernel
theorem d_M_write_128 : decode b_M_write 128 = .ok (.iadd, 1) := by decide +kernel
theorem d_M_write_129 : decode b_M_write 129 = .ok (.putfield 52, 3) := by decide +kernel
theorem d_M_write_132 : decode b_M_write 132 = .ok (.aload_n 0, 1) := by decide +kernel
theorem d_M_write_133 : decode b_M_write 133 = .ok (.aload_n 0, 1) := by decide +kernel
theorem d_M_write_134 : decode b_M_write 134 = .ok (.getfield 55, 3) := by decide +kernel
theorem d_M_write_137 : decode b_M_write 137 = .ok (.iconst 1, 1) := by decide +kernel
theorem d_M_write_138 : decode b_M_write 138 = .ok (.iadd, 1) := by decide +kernel
theorem d_M_write_139 : decode b_M_write 139 = .ok (.putfield 55, 3) := by decide +kernel
theorem d_M_write_142 : decode b_M_write 142 = .ok (.aload_n 0, 1) := by decide +kernel
theorem d_M_write_143 : decode b_M_write 143 = .ok (.getfield 52, 3) := by decide +kernel
theorem d_M_write_146 : decode b_M_write 146 = .ok (.iconst 1, 1) := by decide +kernel
theorem d_M_write_147 : decode b_M_write 147 = .ok (.isub, 1) := by decide +kernel
theorem d_M_write_148 : decode b_M_write 148 = .ok (.ireturn, 1) := by decide +kernel
end
section
theorem d_M_move_0 : decode b_M_move 0 = .ok (.aload_n 0, 1) := by decide +kernel
theorem d_M_move_1 : decode b_M_move 1 = .ok (.getfield 13, 3) := by decide +kernel
theorem d_M_move_4 : decode b_M_move 4 = .ok (.iload_n 2, 1) := by decide +kernel
theorem d_M_move_5 : decode b_M_move 5 = .ok (.aload_n 0, 1) := by decide +kernel
theorem d_M_move_6 : decode b_M_move 6 = .ok (.getfield 13, 3) := by decide +kernel
theorem d_M_move_9 : decode b_M_move 9 = .ok (.iload_n 1, 1) := by decide +kernel
theorem d_M_move_10 : decode b_M_move 10 = .ok (.baload, 1) := by decide +kernel
theorem d_M_move_11 : decode b_M_move 11 = .ok (.bastore, 1) := by decide +kernel
theorem d_M_move_12 : decode b_M_move 12 = .ok (.aload_n 0, 1) := by decide +kernel
theorem d_M_move_13 : decode b_M_move 13 = .ok (.getfield 17, 3) := by decide +kernel
theorem d_M_move_16 : decode b_M_move 16 = .ok (.iload_n 2, 1) := by decide +kernel
theorem d_M_move_17 : decode b_M_move 17 = .ok (.aload_n 0, 1) := by decide +kernel
theorem d_M_move_18 : decode b_M_move 18 = .ok (.getfield 17, 3) := by decide +kernel
theorem d_M_move_21 : decode b_M_move 21 = .ok (.iload_n 1, 1) := by decide +kernel
theorem d_M_move_22 : decode b_M_move 22 = .ok (.iaload, 1) := by decide +kernel
theorem d_M_move_23 : decode b_M_move 23 = .ok (.iastore, 1) := by decide +kernel
theorem d_M_move_24 : decode b_M_move 24 = .ok (.aload_n 0, 1) := by decide +kernel
theorem d_M_move_25 : decode b_M_move 25 = .ok (.getfield 20, 3) := by decide +kernel
theorem d_M_move_28 : decode b_M_move 28 = .ok (.iload_n 2, 1) := by decide +kernel
theorem d_M_move_29 : decode b_M_move 29 = .ok (.aload_n 0, 1) := by decide +kernel
theorem d_M_move_30 : decode b_M_move 30 = .ok (.getfield 20, 3) := by decide +kernel
theorem d_M_move_33 : decode b_M_move 33 = .ok (.iload_n 1, 1) := by decide +kernel
theorem d_M_move_34 : decode b_M_move 34 = .ok (.iaload, 1) := by decide +kernel
theorem d_M_move_35 : decode b_M_move 35 = .ok (.iastore, 1) := by decide +kernel
theorem d_M_move_36 : decode b_M_move 36 = .ok (.iconst 0, 1) := by decide +kernel
theorem d_M_move_37 : decode b_M_move 37 = .ok (.istore_n 3, 1) := by decide +kernel
theorem d_M_move_38 : decode b_M_move 38 = .ok (.iload_n 3, 1) := by decide +kernel
theorem d_M_move_39 : decode b_M_move 39 = .ok (.aload_n 0, 1) := by decide +kernel
theorem d_M_move_40 : decode b_M_move 40 = .ok (.getfield 17, 3) := by decide +kernel
theorem d_M_move_43 : decode b_M_move 43 = .ok (.iload_n 1, 1) := by decide +kernel
theorem d_M_move_44 : decode b_M_move 44 = .ok (.iaload, 1) := by decide +kernel
theorem d_M_move_45 : decode b_M_move 45 = .ok (.if_icmp .ge 31, 3) := by decide +kernel
theorem d_M_move_48 : decode b_M_move 48 = .ok (.aload_n 0, 1) := by decide +kernel
theorem d_M_move_49 : decode b_M_move 49 = .ok (.getfield 23, 3) := by decide +kernel
theorem d_M_move_52 : decode b_M_move 52 = .ok (.bipush 100, 2) := by decide +kernel
theorem d_M_move_54 : decode b_M_move 54 = .ok (.iload_n 2, 1) := by decide +kernel
theorem d_M_move_55 : decode b_M_move 55 = .ok (.imul, 1) := by decide +kernel
theorem d_M_move_56 : decode b_M_move 56 = .ok (.iload_n 3, 1) := by decide +kernel
theorem d_M_move_57 : decode b_M_move 57 = .ok (.iadd, 1) := by decide +kernel
theorem d_M_move_58 : decode b_M_move 58 = .ok (.aload_n 0, 1) := by decide +kernel
theorem d_M_move_59 : decode b_M_move 59 = .ok (.getfield 23, 3) := by decide +kernel
theorem d_M_move_62 : decode b_M_move 62 = .ok (.bipush 100, 2) := by decide +kernel
theorem d_M_move_64 : decode b_M_move 64 = .ok (.iload_n 1, 1) := by decide +kernel
theorem d_M_move_65 : decode b_M_move 65 = .ok (.imul, 1) := by decide +kernel
theorem d_M_move_66 : decode b_M_move 66 = .ok (.iload_n 3, 1) := by decide +kernel
theorem d_M_move_67 : decode b_M_move 67 = .ok (.iadd, 1) := by decide +kernel
theorem d_M_move_68 : decode b_M_move 68 = .ok (.iaload, 1) := by decide +kernel
theorem d_M_move_69 : decode b_M_move 69 = .ok (.iastore, 1) := by decide +kernel
theorem d_M_move_70 : decode b_M_move 70 = .ok (.iinc 3 1, 3) := by decide +kernel
theorem d_M_move_73 : decode b_M_move 73 = .ok (.goto (-35), 3) := by decide +kernel
theorem d_M_move_76 : decode b_M_move 76 = .ok (.return_, 1) := by decide +kernel
theorem d_M_drop_0 : decode b_M_drop 0 = .ok (.aload_n 0, 1) := by decide +kernel
theorem d_M_drop_1 : decode b_M_drop 1 = .ok (.getfield 40, 3) := by decide +kernel
theorem d_M_drop_4 : decode b_M_drop 4 = .ok (.ifCond .ne 26, 3) := by decide +kernel
theorem d_M_drop_7 : decode b_M_drop 7 = .ok (.iload_n 1, 1) := by decide +kernel
theorem d_M_drop_8 : decode b_M_drop 8 = .ok (.ifCond .lt 22, 3) := by decide +kernel
theorem d_M_drop_11 : decode b_M_drop 11 = .ok (.iload_n 1, 1) := by decide +kernel
theorem d_M_drop_12 : decode b_M_drop 12 = .ok (.aload_n 0, 1) := by decide +kernel
theorem d_M_drop_13 : decode b_M_drop 13 = .ok (.invokevirtual 58, 3) := by decide +kernel
theorem d_M_drop_16 : decode b_M_drop 16 = .ok (.if_icmp .gt 14, 3) := by decide +kernel
theorem d_M_drop_19 : decode b_M_drop 19 = .ok (.aload_n 0, 1) := by decide +kernel
theorem d_M_drop_20 : decode b_M_drop 20 = .ok (.invokevirtual 44, 3) := by decide +kernel
theorem d_M_drop_23 : decode b_M_drop 23 = .ok (.iconst 1, 1) := by decide +kernel
theorem d_M_drop_24 : decode b_M_drop 24 = .ok (.iadd, 1) := by decide +kernel
theorem d_M_drop_25 : decode b_M_drop 25 = .ok (.bipush 40, 2) := by decide +kernel
theorem d_M_drop_27 : decode b_M_drop 27 = .ok (.if_icmp .le 5, 3) := by decide +kernel
theorem d_M_drop_30 : decode b_M_drop 30 = .ok (.iconst (-1), 1) := by decide +kernel
theorem d_M_drop_31 : decode b_M_drop 31 = .ok (.ireturn, 1) := by decide +kernel
theorem d_M_drop_32 : decode b_M_drop 32 = .ok (.aload_n 0, 1) := by decide +kernel
theorem d_M_drop_33 : decode b_M_drop 33 = .ok (.invokevirtual 48, 3) := by decide +kernel
theorem d_M_drop_36 : decode b_M_drop 36 = .ok (.ifCond .eq 6, 3) := by decide +kernel
theorem d_M_drop_39 : decode b_M_drop 39 = .ok (.bipush (-2), 2) := by decide +kernel
theorem d_M_drop_41 : decode b_M_drop 41 = .ok (.ireturn, 1) := by decide +kernel
theorem d_M_drop_42 : decode b_M_drop 42 = .ok (.aload_n 0, 1) := by decide +kernel
theorem d_M_drop_43 : decode b_M_drop 43 = .ok (.aload_n 0, 1) := by decide +kernel
theorem d_M_drop_44 : decode b_M_drop 44 = .ok (.getfield 55, 3) := by decide +kernel
theorem d_M_drop_47 : decode b_M_drop 47 = .ok (.iconst 1, 1) := by decide +kernel
theorem d_M_drop_48 : decode b_M_drop 48 = .ok (.iadd, 1) := by decide +kernel
theorem d_M_drop_49 : decode b_M_drop 49 = .ok (.putfield 55, 3) := by decide +kernel
theorem d_M_drop_52 : decode b_M_drop 52 = .ok (.aload_n 0, 1) := by decide +kernel
theorem d_M_drop_53 : decode b_M_drop 53 = .ok (.getfield 13, 3) := by decide +kernel
theorem d_M_drop_56 : decode b_M_drop 56 = .ok (.aload_n 0, 1) := by decide +kernel
theorem d_M_drop_57 : decode b_M_drop 57 = .ok (.getfield 33, 3) := by decide +kernel
theorem d_M_drop_60 : decode b_M_drop 60 = .ok (.iconst 0, 1) := by decide +kernel
theorem d_M_drop_61 : decode b_M_drop 61 = .ok (.bastore, 1) := by decide +kernel
theorem d_M_drop_62 : decode b_M_drop 62 = .ok (.aload_n 0, 1) := by decide +kernel
theorem d_M_drop_63 : decode b_M_drop 63 = .ok (.getfield 17, 3) := by decide +kernel
theorem d_M_drop_66 : decode b_M_drop 66 = .ok (.aload_n 0, 1) := by decide +kernel
theorem d_M_drop_67 : decode b_M_drop 67 = .ok (.getfield 33, 3) := by decide +kernel
theorem d_M_drop_70 : decode b_M_drop 70 = .ok (.iconst 0, 1) := by decide +kernel
theorem d_M_drop_71 : decode b_M_drop 71 = .ok (.iastore, 1) := by decide +kernel
theorem d_M_drop_72 : decode b_M_drop 72 = .ok (.aload_n 0, 1) := by decide +kernel
theorem d_M_drop_73 : decode b_M_drop 73 = .ok (.aload_n 0, 1) := by decide +kernel
theorem d_M_drop_74 : decode b_M_drop 74 = .ok (.getfield 33, 3) := by decide +kernel
theorem d_M_drop_77 : decode b_M_drop 77 = .ok (.iconst 1, 1) := by decide +kernel
theorem d_M_drop_78 : decode b_M_drop 78 = .ok (.iadd, 1) := by decide +kernel
theorem d_M_drop_79 : decode b_M_drop 79 = .ok (.putfield 33, 3) := by decide +kernel
theorem d_M_drop_82 : decode b_M_drop 82 = .ok (.aload_n 0, 1) := by decide +kernel
theorem d_M_drop_83 : decode b_M_drop 83 = .ok (.invokevirtual 58, 3) := by decide +kernel
theorem d_M_drop_86 : decode b_M_drop 86 = .ok (.iload_n 1, 1) := by decide +kernel
theorem d_M_drop_87 : decode b_M_drop 87 = .ok (.isub, 1) := by decide +kernel
theorem d_M_drop_88 : decode b_M_drop 88 = .ok (.istore_n 2, 1) := by decide +kernel
theorem d_M_drop_89 : decode b_M_drop 89 = .ok (.aload_n 0, 1) := by decide +kernel
theorem d_M_drop_90 : decode b_M_drop 90 = .ok (.getfield 33, 3) := by decide +kernel
theorem d_M_drop_93 : decode b_M_drop 93 = .ok (.iconst 1, 1) := by decide +kernel
theorem d_M_drop_94 : decode b_M_drop 94 = .ok (.isub, 1) := by decide +kernel
theorem d_M_drop_95 : decode b_M_drop 95 = .ok (.istore_n 3, 1) := by decide +kernel
theorem d_M_drop_96 : decode b_M_drop 96 = .ok (.aload_n 0, 1) := by decide +kernel
theorem d_M_drop_97 : decode b_M_drop 97 = .ok (.getfield 33, 3) := by decide +kernel
theorem d_M_drop_100 : decode b_M_drop 100 = .ok (.iconst 1, 1) := by decide +kernel
theorem d_M_drop_101 : decode b_M_drop 101 = .ok (.isub, 1) := by decide +kernel
theorem d_M_drop_102 : decode b_M_drop 102 = .ok (.istore 4, 2) := by decide +kernel
theorem d_M_drop_104 : decode b_M_drop 104 = .ok (.iload 4, 2) := by decide +kernel
theorem d_M_drop_106 : decode b_M_drop 106 = .ok (.ifCond .lt 68, 3) := by decide +kernel
theorem d_M_drop_109 : decode b_M_drop 109 = .ok (.iconst 0, 1) := by decide +kernel
theorem d_M_drop_110 : decode b_M_drop 110 = .ok (.istore 5, 2) := by decide +kernel
theorem d_M_drop_112 : decode b_M_drop 112 = .ok (.iconst 0, 1) := by decide +kernel
theorem d_M_drop_113 : decode b_M_drop 113 = .ok (.istore 6, 2) := by decide +kernel
theorem d_M_drop_115 : decode b_M_drop 115 = .ok (.iload 6, 2) := by decide +kernel
theorem d_M_drop_117 : decode b_M_drop 117 = .ok (.iload 4, 2) := by decide +kernel
theorem d_M_drop_119 : decode b_M_drop 119 = .ok (.if_icmp .ge 30, 3) := by decide +kernel
theorem d_M_drop_122 : decode b_M_drop 122 = .ok (.aload_n 0, 1) := by decide +kernel
theorem d_M_drop_123 : decode b_M_drop 123 = .ok (.getfield 13, 3) := by decide +kernel
theorem d_M_drop_126 : decode b_M_drop 126 = .ok (.iload 6, 2) := by decide +kernel
theorem d_M_drop_128 : decode b_M_drop 128 = .ok (.baload, 1) := by decide +kernel
theorem d_M_drop_129 : decode b_M_drop 129 = .ok (.ifCond .eq 10, 3) := by decide +kernel
theorem d_M_drop_132 : decode b_M_drop 132 = .ok (.iload 5, 2) := by decide +kernel
theorem d_M_drop_134 : decode b_M_drop 134 = .ok (.iconst 1, 1) := by decide +kernel
theorem d_M_drop_135 : decode b_M_drop 135 = .ok (.iadd, 1) := by decide +kernel
theorem d_M_drop_136 : decode b_M_drop 136 = .ok (.goto 5, 3) := by decide +kernel
theorem d_M_drop_139 : decode b_M_drop 139 = .ok (.iload 5, 2) := by decide +kernel
theorem d_M_drop_141 : decode b_M_drop 141 = .ok (.istore 5, 2) := by decide +kernel
theorem d_M_drop_143 : decode b_M_drop 143 = .ok (.iinc 6 1, 3) := by decide +kernel
theorem d_M_drop_146 : decode b_M_drop 146 = .ok (.goto (-31), 3) := by decide +kernel
theorem d_M_drop_149 : decode b_M_drop 149 = .ok (.aload_n 0, 1) := by decide +kernel
theorem d_M_drop_150 : decode b_M_drop 150 = .ok (.getfield 13, 3) := by decide +kernel
theorem d_M_drop_153 : decode b_M_drop 153 = .ok (.iload 4, 2) := by decide +kernel
theorem d_M_drop_155 : decode b_M_drop 155 = .ok (.baload, 1) := by decide +kernel
theorem d_M_drop_156 : decode b_M_drop 156 = .ok (.ifCond .eq 12, 3) := by decide +kernel
theorem d_M_drop_159 : decode b_M_drop 159 = .ok (.iload 5, 2) := by decide +kernel
theorem d_M_drop_161 : decode b_M_drop 161 = .ok (.iload_n 1, 1) := by decide +kernel
theorem d_M_drop_162 : decode b_M_drop 162 = .ok (.if_icmp .lt 6, 3) := by decide +kernel
theorem d_M_drop_165 : decode b_M_drop 165 = .ok (.iload 4, 2) := by decide +kernel
theorem d_M_drop_167 : decode b_M_drop 167 = .ok (.istore_n 3, 1) := by decide +kernel
theorem d_M_drop_168 : decode b_M_drop 168 = .ok (.iinc 4 (-1), 3) := by decide +kernel
theorem d_M_drop_171 : decode b_M_drop 171 = .ok (.goto (-67), 3) := by decide +kernel
theorem d_M_drop_174 : decode b_M_drop 174 = .ok (.iload_n 3, 1) := by decide +kernel
theorem d_M_drop_175 : decode b_M_drop 175 = .ok (.istore 4, 2) := by decide +kernel
theorem d_M_drop_177 : decode b_M_drop 177 = .ok (.iload 4, 2) := by decide +kernel
theorem d_M_drop_179 : decode b_M_drop 179 = .ok (.aload_n 0, 1) := by decide +kernel
theorem d_M_drop_180 : decode b_M_drop 180 = .ok (.getfield 33, 3) := by decide +kernel
theorem d_M_drop_183 : decode b_M_drop 183 = .ok (.if_icmp .ge 19, 3) := by decide +kernel
theorem d_M_drop_186 : decode b_M_drop 186 = .ok (.aload_n 0, 1) := by decide +kernel
theorem d_M_drop_187 : decode b_M_drop 187 = .ok (.iload 4, 2) := by decide +kernel
theorem d_M_drop_189 : decode b_M_drop 189 = .ok (.iload 4, 2) := by decide +kernel
theorem d_M_drop_191 : decode b_M_drop 191 = .ok (.iload_n 3, 1) := by decide +kernel
theorem d_M_drop_192 : decode b_M_drop 192 = .ok (.isub, 1) := by decide +kernel
theorem d_M_drop_193 : decode b_M_drop 193 = .ok (.invokevirtual 61, 3) := by decide +kernel
theorem d_M_drop_196 : decode b_M_drop 196 = .ok (.iinc 4 1, 3) := by decide +kernel
theorem d_M_drop_199 : decode b_M_drop 199 = .ok (.goto (-22), 3) := by decide +kernel
theorem d_M_drop_202 : decode b_M_drop 202 = .ok (.aload_n 0, 1) := by decide +kernel
theorem d_M_drop_203 : decode b_M_drop 203 = .ok (.aload_n 0, 1) := by decide +kernel
theorem d_M_drop_204 : decode b_M_drop 204 = .ok (.getfield 33, 3) := by decide +kernel
theorem d_M_drop_207 : decode b_M_drop 207 = .ok (.iload_n 3, 1) := by decide +kernel
theorem d_M_drop_208 : decode b_M_drop 208 = .ok (.isub, 1) := by decide +kernel
theorem d_M_drop_209 : decode b_M_drop 209 = .ok (.putfield 33, 3) := by decide +kernel
theorem d_M_drop_212 : decode b_M_drop 212 = .ok (.iload_n 2, 1) := by decide +kernel
theorem d_M_drop_213 : decode b_M_drop 213 = .ok (.ireturn, 1) := by decide +kernel
theorem d_M_cut_0 : decode b_M_cut 0 = .ok (.iload_n 1, 1) := by decide +kernel
theorem d_M_cut_1 : decode b_M_cut 1 = .ok (.iconst (-1), 1) := by decide +kernel
theorem d_M_cut_2 : decode b_M_cut 2 = .ok (.if_icmp .lt 9, 3) := by decide +kernel
theorem d_M_cut_5 : decode b_M_cut 5 = .ok (.iload_n 1, 1) := by decide +kernel
theorem d_M_cut_6 : decode b_M_cut 6 = .ok (.bipush 8, 2) := by decide +kernel
theorem d_M_cut_8 : decode b_M_cut 8 = .ok (.if_icmp .le 5, 3) := by decide +kernel
theorem d_M_cut_11 : decode b_M_cut 11 = .ok (.iconst 0, 1) := by decide +kernel
theorem d_M_cut_12 : decode b_M_cut 12 = .ok (.ireturn, 1) := by decide +kernel
theorem d_M_cut_13 : decode b_M_cut 13 = .ok (.aload_n 0, 1) := by decide +kernel
theorem d_M_cut_14 : decode b_M_cut 14 = .ok (.iload_n 1, 1) := by decide +kernel
theorem d_M_cut_15 : decode b_M_cut 15 = .ok (.putfield 26, 3) := by decide +kernel
theorem d_M_cut_18 : decode b_M_cut 18 = .ok (.iconst 1, 1) := by decide +kernel
theorem d_M_cut_19 : decode b_M_cut 19 = .ok (.ireturn, 1) := by decide +kernel
theorem d_M_start_0 : decode b_M_start 0 = .ok (.aload_n 0, 1) := by decide +kernel
theorem d_M_start_1 : decode b_M_start 1 = .ok (.getfield 40, 3) := by decide +kernel
theorem d_M_start_4 : decode b_M_start 4 = .ok (.ifCond .ne 5, 3) := by decide +kernel
theorem d_M_start_7 : decode b_M_start 7 = .ok (.iconst (-1), 1) := by decide +kernel
theorem d_M_start_8 : decode b_M_start 8 = .ok (.ireturn, 1) := by decide +kernel
theorem d_M_start_9 : decode b_M_start 9 = .ok (.aload_n 0, 1) := by decide +kernel
theorem d_M_start_10 : decode b_M_start 10 = .ok (.iconst 0, 1) := by decide +kernel
theorem d_M_start_11 : decode b_M_start 11 = .ok (.putfield 40, 3) := by decide +kernel
theorem d_M_start_14 : decode b_M_start 14 = .ok (.aload_n 0, 1) := by decide +kernel
theorem d_M_start_15 : decode b_M_start 15 = .ok (.invokevirtual 58, 3) := by decide +kernel
theorem d_M_start_18 : decode b_M_start 18 = .ok (.ireturn, 1) := by decide +kernel
theorem d_M_placeOf_0 : decode b_M_placeOf 0 = .ok (.iload_n 1, 1) := by decide +kernel
theorem d_M_placeOf_1 : decode b_M_placeOf 1 = .ok (.istore_n 2, 1) := by decide +kernel
theorem d_M_placeOf_2 : decode b_M_placeOf 2 = .ok (.iconst 0, 1) := by decide +kernel
theorem d_M_placeOf_3 : decode b_M_placeOf 3 = .ok (.istore_n 3, 1) := by decide +kernel
theorem d_M_placeOf_4 : decode b_M_placeOf 4 = .ok (.iload_n 3, 1) := by decide +kernel
theorem d_M_placeOf_5 : decode b_M_placeOf 5 = .ok (.aload_n 0, 1) := by decide +kernel
theorem d_M_placeOf_6 : decode b_M_placeOf 6 = .ok (.getfield 33, 3) := by decide +kernel
theorem d_M_placeOf_9 : decode b_M_placeOf 9 = .ok (.if_icmp .ge 42, 3) := by decide +kernel
theorem d_M_placeOf_12 : decode b_M_placeOf 12 = .ok (.iload_n 1, 1) := by decide +kernel
theorem d_M_placeOf_13 : decode b_M_placeOf 13 = .ok (.ifCond .lt 38, 3) := by decide +kernel
theorem d_M_placeOf_16 : decode b_M_placeOf 16 = .ok (.aload_n 0, 1) := by decide +kernel
theorem d_M_placeOf_17 : decode b_M_placeOf 17 = .ok (.getfield 40, 3) := by decide +kernel
theorem d_M_placeOf_20 : decode b_M_placeOf 20 = .ok (.ifCond .ne 31, 3) := by decide +kernel
theorem d_M_placeOf_23 : decode b_M_placeOf 23 = .ok (.aload_n 0, 1) := by decide +kernel
theorem d_M_placeOf_24 : decode b_M_placeOf 24 = .ok (.getfield 13, 3) := by decide +kernel
theorem d_M_placeOf_27 : decode b_M_placeOf 27 = .ok (.iload_n 3, 1) := by decide +kernel
theorem d_M_placeOf_28 : decode b_M_placeOf 28 = .ok (.baload, 1) := by decide +kernel
theorem d_M_placeOf_29 : decode b_M_placeOf 29 = .ok (.ifCond .ne 6, 3) := by decide +kernel
theorem d_M_placeOf_32 : decode b_M_placeOf 32 = .ok (.goto 13, 3) := by decide +kernel
theorem d_M_placeOf_35 : decode b_M_placeOf 35 = .ok (.iload_n 2, 1) := by decide +kernel
theorem d_M_placeOf_36 : decode b_M_placeOf 36 = .ok (.ifCond .ne 5, 3) := by decide +kernel
theorem d_M_placeOf_39 : decode b_M_placeOf 39 = .ok (.iload_n 3, 1) := by decide +kernel
theorem d_M_placeOf_40 : decode b_M_placeOf 40 = .ok (.ireturn, 1) := by decide +kernel
theorem d_M_placeOf_41 : decode b_M_placeOf 41 = .ok (.iload_n 2, 1) := by decide +kernel
theorem d_M_placeOf_42 : decode b_M_placeOf 42 = .ok (.iconst 1, 1) := by decide +kernel
theorem d_M_placeOf_43 : decode b_M_placeOf 43 = .ok (.isub, 1) := by decide +kernel
theorem d_M_placeOf_44 : decode b_M_placeOf 44 = .ok (.istore_n 2, 1) := by decide +kernel
theorem d_M_placeOf_45 : decode b_M_placeOf 45 = .ok (.iinc 3 1, 3) := by decide +kernel
theorem d_M_placeOf_48 : decode b_M_placeOf 48 = .ok (.goto (-44), 3) := by decide +kernel
theorem d_M_placeOf_51 : decode b_M_placeOf 51 = .ok (.iconst (-1), 1) := by decide +kernel
theorem d_M_placeOf_52 : decode b_M_placeOf 52 = .ok (.ireturn, 1) := by decide +kernel
theorem d_M_record_0 : decode b_M_record 0 = .ok (.aload_n 0, 1) := by decide +kernel
theorem d_M_record_1 : decode b_M_record 1 = .ok (.iload_n 1, 1) := by decide +kernel
theorem d_M_record_2 : decode b_M_record 2 = .ok (.invokevirtual 65, 3) := by decide +kernel
theorem d_M_record_5 : decode b_M_record 5 = .ok (.istore_n 3, 1) := by decide +kernel
theorem d_M_record_6 : decode b_M_record 6 = .ok (.iload_n 3, 1) := by decide +kernel
theorem d_M_record_7 : decode b_M_record 7 = .ok (.ifCond .ge 7, 3) := by decide +kernel
theorem d_M_record_10 : decode b_M_record 10 = .ok (.iconst (-1), 1) := by decide +kernel
theorem d_M_record_11 : decode b_M_record 11 = .ok (.goto 31, 3) := by decide +kernel
theorem d_M_record_14 : decode b_M_record 14 = .ok (.iload_n 2, 1) := by decide +kernel
theorem d_M_record_15 : decode b_M_record 15 = .ok (.ifCond .ne 12, 3) := by decide +kernel
theorem d_M_record_18 : decode b_M_record 18 = .ok (.aload_n 0, 1) := by decide +kernel
theorem d_M_record_19 : decode b_M_record 19 = .ok (.getfield 17, 3) := by decide +kernel
theorem d_M_record_22 : decode b_M_record 22 = .ok (.iload_n 3, 1) := by decide +kernel
theorem d_M_record_23 : decode b_M_record 23 = .ok (.iaload, 1) := by decide +kernel
theorem d_M_record_24 : decode b_M_record 24 = .ok (.goto 18, 3) := by decide +kernel
theorem d_M_record_27 : decode b_M_record 27 = .ok (.iload_n 2, 1) := by decide +kernel
theorem d_M_record_28 : decode b_M_record 28 = .ok (.iconst 1, 1) := by decide +kernel
theorem d_M_record_29 : decode b_M_record 29 = .ok (.if_icmp .ne 12, 3) := by decide +kernel
theorem d_M_record_32 : decode b_M_record 32 = .ok (.aload_n 0, 1) := by decide +kernel
theorem d_M_record_33 : decode b_M_record 33 = .ok (.getfield 20, 3) := by decide +kernel
theorem d_M_record_36 : decode b_M_record 36 = .ok (.iload_n 3, 1) := by decide +kernel
theorem d_M_record_37 : decode b_M_record 37 = .ok (.iaload, 1) := by decide +kernel
theorem d_M_record_38 : decode b_M_record 38 = .ok (.goto 4, 3) := by decide +kernel
theorem d_M_record_41 : decode b_M_record 41 = .ok (.iconst (-1), 1) := by decide +kernel
theorem d_M_record_42 : decode b_M_record 42 = .ok (.ireturn, 1) := by decide +kernel
theorem d_M_bytes_0 : decode b_M_bytes 0 = .ok (.aload_n 0, 1) := by decide +kernel
theorem d_M_bytes_1 : decode b_M_bytes 1 = .ok (.iload_n 1, 1) := by decide +kernel
theorem d_M_bytes_2 : decode b_M_bytes 2 = .ok (.invokevirtual 65, 3) := by decide +kernel
theorem d_M_bytes_5 : decode b_M_bytes 5 = .ok (.istore_n 3, 1) := by decide +kernel
theorem d_M_bytes_6 : decode b_M_bytes 6 = .ok (.iload_n 3, 1) := by decide +kernel
theorem d_M_bytes_7 : decode b_M_bytes 7 = .ok (.ifCond .lt 7, 3) := by decide +kernel
theorem d_M_bytes_10 : decode b_M_bytes 10 = .ok (.iload_n 2, 1) := by decide +kernel
theorem d_M_bytes_11 : decode b_M_bytes 11 = .ok (.ifCond .ge 7, 3) := by decide +kernel
theorem d_M_bytes_14 : decode b_M_bytes 14 = .ok (.ldc2_w 68, 3) := by decide +kernel
theorem d_M_bytes_17 : decode b_M_bytes 17 = .ok (.lreturn, 1) := by decide +kernel
theorem d_M_bytes_18 : decode b_M_bytes 18 = .ok (.lconst 0, 1) := by decide +kernel
theorem d_M_bytes_19 : decode b_M_bytes 19 = .ok (.lstore 4, 2) := by decide +kernel
theorem d_M_bytes_21 : decode b_M_bytes 21 = .ok (.iconst 0, 1) := by decide +kernel
theorem d_M_bytes_22 : decode b_M_bytes 22 = .ok (.istore 6, 2) := by decide +kernel
theorem d_M_bytes_24 : decode b_M_bytes 24 = .ok (.iload 6, 2) := by decide +kernel
theorem d_M_bytes_26 : decode b_M_bytes 26 = .ok (.bipush 8, 2) := by decide +kernel
theorem d_M_bytes_28 : decode b_M_bytes 28 = .ok (.if_icmp .ge 59, 3) := by decide +kernel
theorem d_M_bytes_31 : decode b_M_bytes 31 = .ok (.lload 4, 2) := by decide +kernel
theorem d_M_bytes_33 : decode b_M_bytes 33 = .ok (.bipush 8, 2) := by decide +kernel
theorem d_M_bytes_35 : decode b_M_bytes 35 = .ok (.lshl, 1) := by decide +kernel
theorem d_M_bytes_36 : decode b_M_bytes 36 = .ok (.iload_n 2, 1) := by decide +kernel
theorem d_M_bytes_37 : decode b_M_bytes 37 = .ok (.aload_n 0, 1) := by decide +kernel
theorem d_M_bytes_38 : decode b_M_bytes 38 = .ok (.getfield 17, 3) := by decide +kernel
theorem d_M_bytes_41 : decode b_M_bytes 41 = .ok (.iload_n 3, 1) := by decide +kernel
theorem d_M_bytes_42 : decode b_M_bytes 42 = .ok (.iaload, 1) := by decide +kernel
theorem d_M_bytes_43 : decode b_M_bytes 43 = .ok (.if_icmp .ge 33, 3) := by decide +kernel
theorem d_M_bytes_46 : decode b_M_bytes 46 = .ok (.iload 6, 2) := by decide +kernel
theorem d_M_bytes_48 : decode b_M_bytes 48 = .ok (.aload_n 0, 1) := by decide +kernel
theorem d_M_bytes_49 : decode b_M_bytes 49 = .ok (.getfield 17, 3) := by decide +kernel
theorem d_M_bytes_52 : decode b_M_bytes 52 = .ok (.iload_n 3, 1) := by decide +kernel
theorem d_M_bytes_53 : decode b_M_bytes 53 = .ok (.iaload, 1) := by decide +kernel
theorem d_M_bytes_54 : decode b_M_bytes 54 = .ok (.iload_n 2, 1) := by decide +kernel
theorem d_M_bytes_55 : decode b_M_bytes 55 = .ok (.isub, 1) := by decide +kernel
theorem d_M_bytes_56 : decode b_M_bytes 56 = .ok (.if_icmp .ge 20, 3) := by decide +kernel
theorem d_M_bytes_59 : decode b_M_bytes 59 = .ok (.aload_n 0, 1) := by decide +kernel
theorem d_M_bytes_60 : decode b_M_bytes 60 = .ok (.getfield 23, 3) := by decide +kernel
theorem d_M_bytes_63 : decode b_M_bytes 63 = .ok (.bipush 100, 2) := by decide +kernel
theorem d_M_bytes_65 : decode b_M_bytes 65 = .ok (.iload_n 3, 1) := by decide +kernel
theorem d_M_bytes_66 : decode b_M_bytes 66 = .ok (.imul, 1) := by decide +kernel
theorem d_M_bytes_67 : decode b_M_bytes 67 = .ok (.iload_n 2, 1) := by decide +kernel
theorem d_M_bytes_68 : decode b_M_bytes 68 = .ok (.iadd, 1) := by decide +kernel
theorem d_M_bytes_69 : decode b_M_bytes 69 = .ok (.iload 6, 2) := by decide +kernel
theorem d_M_bytes_71 : decode b_M_bytes 71 = .ok (.iadd, 1) := by decide +kernel
theorem d_M_bytes_72 : decode b_M_bytes 72 = .ok (.iaload, 1) := by decide +kernel
theorem d_M_bytes_73 : decode b_M_bytes 73 = .ok (.goto 4, 3) := by decide +kernel
theorem d_M_bytes_76 : decode b_M_bytes 76 = .ok (.iconst 0, 1) := by decide +kernel
theorem d_M_bytes_77 : decode b_M_bytes 77 = .ok (.i2l, 1) := by decide +kernel
theorem d_M_bytes_78 : decode b_M_bytes 78 = .ok (.lor, 1) := by decide +kernel
theorem d_M_bytes_79 : decode b_M_bytes 79 = .ok (.lstore 4, 2) := by decide +kernel
theorem d_M_bytes_81 : decode b_M_bytes 81 = .ok (.iinc 6 1, 3) := by decide +kernel
theorem d_M_bytes_84 : decode b_M_bytes 84 = .ok (.goto (-60), 3) := by decide +kernel
theorem d_M_bytes_87 : decode b_M_bytes 87 = .ok (.lload 4, 2) := by decide +kernel
theorem d_M_bytes_89 : decode b_M_bytes 89 = .ok (.lreturn, 1) := by decide +kernel
theorem d_M_count_0 : decode b_M_count 0 = .ok (.iload_n 1, 1) := by decide +kernel
theorem d_M_count_1 : decode b_M_count 1 = .ok (.tableswitch 90 0 4 #[35, 40, 56, 72, 77], 35) := by decide +kernel
theorem d_M_count_36 : decode b_M_count 36 = .ok (.aload_n 0, 1) := by decide +kernel
theorem d_M_count_37 : decode b_M_count 37 = .ok (.getfield 30, 3) := by decide +kernel
theorem d_M_count_40 : decode b_M_count 40 = .ok (.ireturn, 1) := by decide +kernel
theorem d_M_count_41 : decode b_M_count 41 = .ok (.aload_n 0, 1) := by decide +kernel
theorem d_M_count_42 : decode b_M_count 42 = .ok (.getfield 40, 3) := by decide +kernel
theorem d_M_count_45 : decode b_M_count 45 = .ok (.ifCond .eq 7, 3) := by decide +kernel
theorem d_M_count_48 : decode b_M_count 48 = .ok (.iconst 0, 1) := by decide +kernel
theorem d_M_count_49 : decode b_M_count 49 = .ok (.goto 7, 3) := by decide +kernel
theorem d_M_count_52 : decode b_M_count 52 = .ok (.aload_n 0, 1) := by decide +kernel
theorem d_M_count_53 : decode b_M_count 53 = .ok (.invokevirtual 58, 3) := by decide +kernel
theorem d_M_count_56 : decode b_M_count 56 = .ok (.ireturn, 1) := by decide +kernel
theorem d_M_count_57 : decode b_M_count 57 = .ok (.aload_n 0, 1) := by decide +kernel
theorem d_M_count_58 : decode b_M_count 58 = .ok (.getfield 40, 3) := by decide +kernel
theorem d_M_count_61 : decode b_M_count 61 = .ok (.ifCond .eq 7, 3) := by decide +kernel
theorem d_M_count_64 : decode b_M_count 64 = .ok (.iconst 0, 1) := by decide +kernel
theorem d_M_count_65 : decode b_M_count 65 = .ok (.goto 7, 3) := by decide +kernel
theorem d_M_count_68 : decode b_M_count 68 = .ok (.aload_n 0, 1) := by decide +kernel
theorem d_M_count_69 : decode b_M_count 69 = .ok (.invokevirtual 44, 3) := by decide +kernel
theorem d_M_count_72 : decode b_M_count 72 = .ok (.ireturn, 1) := by decide +kernel
theorem d_M_count_73 : decode b_M_count 73 = .ok (.aload_n 0, 1) := by decide +kernel
theorem d_M_count_74 : decode b_M_count 74 = .ok (.getfield 55, 3) := by decide +kernel
theorem d_M_count_77 : decode b_M_count 77 = .ok (.ireturn, 1) := by decide +kernel
theorem d_M_count_78 : decode b_M_count 78 = .ok (.aload_n 0, 1) := by decide +kernel
theorem d_M_count_79 : decode b_M_count 79 = .ok (.getfield 40, 3) := by decide +kernel
theorem d_M_count_82 : decode b_M_count 82 = .ok (.ifCond .eq 7, 3) := by decide +kernel
theorem d_M_count_85 : decode b_M_count 85 = .ok (.iconst 0, 1) := by decide +kernel
theorem d_M_count_86 : decode b_M_count 86 = .ok (.goto 4, 3) := by decide +kernel
theorem d_M_count_89 : decode b_M_count 89 = .ok (.iconst 1, 1) := by decide +kernel
theorem d_M_count_90 : decode b_M_count 90 = .ok (.ireturn, 1) := by decide +kernel
theorem d_M_count_91 : decode b_M_count 91 = .ok (.iconst (-1), 1) := by decide +kernel
theorem d_M_count_92 : decode b_M_count 92 = .ok (.ireturn, 1) := by decide +kernel
end
section
theorem d_K_init_0 : decode b_K_init 0 = .ok (.aload_n 0, 1) := by decide +kernel
theorem d_K_init_1 : decode b_K_init 1 = .ok (.invokespecial 3, 3) := by decide +kernel
theorem d_K_init_4 : decode b_K_init 4 = .ok (.aload_n 0, 1) := by decide +kernel
theorem d_K_init_5 : decode b_K_init 5 = .ok (.sipush 800, 3) := by decide +kernel
theorem d_K_init_8 : decode b_K_init 8 = .ok (.newarray .byte, 2) := by decide +kernel
theorem d_K_init_10 : decode b_K_init 10 = .ok (.putfield 9, 3) := by decide +kernel
theorem d_K_init_13 : decode b_K_init 13 = .ok (.aload_n 0, 1) := by decide +kernel
theorem d_K_init_14 : decode b_K_init 14 = .ok (.bipush 40, 2) := by decide +kernel
theorem d_K_init_16 : decode b_K_init 16 = .ok (.newarray .boolean, 2) := by decide +kernel
theorem d_K_init_18 : decode b_K_init 18 = .ok (.putfield 15, 3) := by decide +kernel
theorem d_K_init_21 : decode b_K_init 21 = .ok (.return_, 1) := by decide +kernel
theorem d_K_two_0 : decode b_K_two 0 = .ok (.aload_n 0, 1) := by decide +kernel
theorem d_K_two_1 : decode b_K_two 1 = .ok (.getfield 9, 3) := by decide +kernel
theorem d_K_two_4 : decode b_K_two 4 = .ok (.bipush 20, 2) := by decide +kernel
theorem d_K_two_6 : decode b_K_two 6 = .ok (.iload_n 1, 1) := by decide +kernel
theorem d_K_two_7 : decode b_K_two 7 = .ok (.imul, 1) := by decide +kernel
theorem d_K_two_8 : decode b_K_two 8 = .ok (.iload_n 2, 1) := by decide +kernel
theorem d_K_two_9 : decode b_K_two 9 = .ok (.iadd, 1) := by decide +kernel
theorem d_K_two_10 : decode b_K_two 10 = .ok (.iload_n 3, 1) := by decide +kernel
theorem d_K_two_11 : decode b_K_two 11 = .ok (.bipush 8, 2) := by decide +kernel
theorem d_K_two_13 : decode b_K_two 13 = .ok (.ishr, 1) := by decide +kernel
theorem d_K_two_14 : decode b_K_two 14 = .ok (.i2b, 1) := by decide +kernel
theorem d_K_two_15 : decode b_K_two 15 = .ok (.bastore, 1) := by decide +kernel
theorem d_K_two_16 : decode b_K_two 16 = .ok (.aload_n 0, 1) := by decide +kernel
theorem d_K_two_17 : decode b_K_two 17 = .ok (.getfield 9, 3) := by decide +kernel
theorem d_K_two_20 : decode b_K_two 20 = .ok (.bipush 20, 2) := by decide +kernel
theorem d_K_two_22 : decode b_K_two 22 = .ok (.iload_n 1, 1) := by decide +kernel
theorem d_K_two_23 : decode b_K_two 23 = .ok (.imul, 1) := by decide +kernel
theorem d_K_two_24 : decode b_K_two 24 = .ok (.iload_n 2, 1) := by decide +kernel
theorem d_K_two_25 : decode b_K_two 25 = .ok (.iadd, 1) := by decide +kernel
theorem d_K_two_26 : decode b_K_two 26 = .ok (.iconst 1, 1) := by decide +kernel
theorem d_K_two_27 : decode b_K_two 27 = .ok (.iadd, 1) := by decide +kernel
theorem d_K_two_28 : decode b_K_two 28 = .ok (.iload_n 3, 1) := by decide +kernel
theorem d_K_two_29 : decode b_K_two 29 = .ok (.i2b, 1) := by decide +kernel
theorem d_K_two_30 : decode b_K_two 30 = .ok (.bastore, 1) := by decide +kernel
theorem d_K_two_31 : decode b_K_two 31 = .ok (.return_, 1) := by decide +kernel
theorem d_K_readTwo_0 : decode b_K_readTwo 0 = .ok (.aload_n 0, 1) := by decide +kernel
theorem d_K_readTwo_1 : decode b_K_readTwo 1 = .ok (.getfield 9, 3) := by decide +kernel
theorem d_K_readTwo_4 : decode b_K_readTwo 4 = .ok (.bipush 20, 2) := by decide +kernel
theorem d_K_readTwo_6 : decode b_K_readTwo 6 = .ok (.iload_n 1, 1) := by decide +kernel
theorem d_K_readTwo_7 : decode b_K_readTwo 7 = .ok (.imul, 1) := by decide +kernel
theorem d_K_readTwo_8 : decode b_K_readTwo 8 = .ok (.iload_n 2, 1) := by decide +kernel
theorem d_K_readTwo_9 : decode b_K_readTwo 9 = .ok (.iadd, 1) := by decide +kernel
theorem d_K_readTwo_10 : decode b_K_readTwo 10 = .ok (.baload, 1) := by decide +kernel
theorem d_K_readTwo_11 : decode b_K_readTwo 11 = .ok (.sipush 255, 3) := by decide +kernel
theorem d_K_readTwo_14 : decode b_K_readTwo 14 = .ok (.iand, 1) := by decide +kernel
theorem d_K_readTwo_15 : decode b_K_readTwo 15 = .ok (.bipush 8, 2) := by decide +kernel
theorem d_K_readTwo_17 : decode b_K_readTwo 17 = .ok (.ishl, 1) := by decide +kernel
theorem d_K_readTwo_18 : decode b_K_readTwo 18 = .ok (.aload_n 0, 1) := by decide +kernel
theorem d_K_readTwo_19 : decode b_K_readTwo 19 = .ok (.getfield 9, 3) := by decide +kernel
theorem d_K_readTwo_22 : decode b_K_readTwo 22 = .ok (.bipush 20, 2) := by decide +kernel
theorem d_K_readTwo_24 : decode b_K_readTwo 24 = .ok (.iload_n 1, 1) := by decide +kernel
theorem d_K_readTwo_25 : decode b_K_readTwo 25 = .ok (.imul, 1) := by decide +kernel
theorem d_K_readTwo_26 : decode b_K_readTwo 26 = .ok (.iload_n 2, 1) := by decide +kernel
theorem d_K_readTwo_27 : decode b_K_readTwo 27 = .ok (.iadd, 1) := by decide +kernel
theorem d_K_readTwo_28 : decode b_K_readTwo 28 = .ok (.iconst 1, 1) := by decide +kernel
theorem d_K_readTwo_29 : decode b_K_readTwo 29 = .ok (.iadd, 1) := by decide +kernel
theorem d_K_readTwo_30 : decode b_K_readTwo 30 = .ok (.baload, 1) := by decide +kernel
theorem d_K_readTwo_31 : decode b_K_readTwo 31 = .ok (.sipush 255, 3) := by decide +kernel
theorem d_K_readTwo_34 : decode b_K_readTwo 34 = .ok (.iand, 1) := by decide +kernel
theorem d_K_readTwo_35 : decode b_K_readTwo 35 = .ok (.ior, 1) := by decide +kernel
theorem d_K_readTwo_36 : decode b_K_readTwo 36 = .ok (.ireturn, 1) := by decide +kernel
theorem d_K_one_0 : decode b_K_one 0 = .ok (.aload_n 0, 1) := by decide +kernel
theorem d_K_one_1 : decode b_K_one 1 = .ok (.getfield 9, 3) := by decide +kernel
theorem d_K_one_4 : decode b_K_one 4 = .ok (.bipush 20, 2) := by decide +kernel
theorem d_K_one_6 : decode b_K_one 6 = .ok (.iload_n 1, 1) := by decide +kernel
theorem d_K_one_7 : decode b_K_one 7 = .ok (.imul, 1) := by decide +kernel
theorem d_K_one_8 : decode b_K_one 8 = .ok (.iload_n 2, 1) := by decide +kernel
theorem d_K_one_9 : decode b_K_one 9 = .ok (.iadd, 1) := by decide +kernel
theorem d_K_one_10 : decode b_K_one 10 = .ok (.iload_n 3, 1) := by decide +kernel
theorem d_K_one_11 : decode b_K_one 11 = .ok (.i2b, 1) := by decide +kernel
theorem d_K_one_12 : decode b_K_one 12 = .ok (.bastore, 1) := by decide +kernel
theorem d_K_one_13 : decode b_K_one 13 = .ok (.return_, 1) := by decide +kernel
theorem d_K_readOne_0 : decode b_K_readOne 0 = .ok (.aload_n 0, 1) := by decide +kernel
theorem d_K_readOne_1 : decode b_K_readOne 1 = .ok (.getfield 9, 3) := by decide +kernel
theorem d_K_readOne_4 : decode b_K_readOne 4 = .ok (.bipush 20, 2) := by decide +kernel
theorem d_K_readOne_6 : decode b_K_readOne 6 = .ok (.iload_n 1, 1) := by decide +kernel
theorem d_K_readOne_7 : decode b_K_readOne 7 = .ok (.imul, 1) := by decide +kernel
theorem d_K_readOne_8 : decode b_K_readOne 8 = .ok (.iload_n 2, 1) := by decide +kernel
theorem d_K_readOne_9 : decode b_K_readOne 9 = .ok (.iadd, 1) := by decide +kernel
theorem d_K_readOne_10 : decode b_K_readOne 10 = .ok (.baload, 1) := by decide +kernel
theorem d_K_readOne_11 : decode b_K_readOne 11 = .ok (.sipush 255, 3) := by decide +kernel
theorem d_K_readOne_14 : decode b_K_readOne 14 = .ok (.iand, 1) := by decide +kernel
theorem d_K_readOne_15 : decode b_K_readOne 15 = .ok (.ireturn, 1) := by decide +kernel
theorem d_E_init_0 : decode b_E_init 0 = .ok (.aload_n 0, 1) := by decide +kernel
theorem d_E_init_1 : decode b_E_init 1 = .ok (.invokespecial 3, 3) := by decide +kernel
theorem d_E_init_4 : decode b_E_init 4 = .ok (.return_, 1) := by decide +kernel
theorem d_E_need_0 : decode b_E_need 0 = .ok (.iconst 1, 1) := by decide +kernel
theorem d_E_need_1 : decode b_E_need 1 = .ok (.aload_n 0, 1) := by decide +kernel
theorem d_E_need_2 : decode b_E_need 2 = .ok (.getfield 9, 3) := by decide +kernel
theorem d_E_need_5 : decode b_E_need 5 = .ok (.bipush 12, 2) := by decide +kernel
theorem d_E_need_7 : decode b_E_need 7 = .ok (.iadd, 1) := by decide +kernel
theorem d_E_need_8 : decode b_E_need 8 = .ok (.iconst 1, 1) := by decide +kernel
theorem d_E_need_9 : decode b_E_need 9 = .ok (.isub, 1) := by decide +kernel
theorem d_E_need_10 : decode b_E_need 10 = .ok (.bipush 12, 2) := by decide +kernel
theorem d_E_need_12 : decode b_E_need 12 = .ok (.idiv, 1) := by decide +kernel
theorem d_E_need_13 : decode b_E_need 13 = .ok (.invokestatic 15, 3) := by decide +kernel
theorem d_E_need_16 : decode b_E_need 16 = .ok (.ireturn, 1) := by decide +kernel
theorem d_law_0 : decode code 0 = .ok (.new 7, 3) := by decide +kernel
theorem d_law_3 : decode code 3 = .ok (.dup, 1) := by decide +kernel
theorem d_law_4 : decode code 4 = .ok (.invokespecial 9, 3) := by decide +kernel
theorem d_law_7 : decode code 7 = .ok (.astore_n 1, 1) := by decide +kernel
theorem d_law_8 : decode code 8 = .ok (.new 10, 3) := by decide +kernel
theorem d_law_11 : decode code 11 = .ok (.dup, 1) := by decide +kernel
theorem d_law_12 : decode code 12 = .ok (.invokespecial 12, 3) := by decide +kernel
theorem d_law_15 : decode code 15 = .ok (.astore_n 2, 1) := by decide +kernel
theorem d_law_16 : decode code 16 = .ok (.iconst 0, 1) := by decide +kernel
theorem d_law_17 : decode code 17 = .ok (.istore_n 3, 1) := by decide +kernel
theorem d_law_18 : decode code 18 = .ok (.iload_n 3, 1) := by decide +kernel
theorem d_law_19 : decode code 19 = .ok (.aload_n 0, 1) := by decide +kernel
theorem d_law_20 : decode code 20 = .ok (.arraylength, 1) := by decide +kernel
theorem d_law_21 : decode code 21 = .ok (.iconst 4, 1) := by decide +kernel
theorem d_law_22 : decode code 22 = .ok (.isub, 1) := by decide +kernel
theorem d_law_23 : decode code 23 = .ok (.if_icmp .gt 288, 3) := by decide +kernel
theorem d_law_26 : decode code 26 = .ok (.aload_n 0, 1) := by decide +kernel
theorem d_law_27 : decode code 27 = .ok (.iload_n 3, 1) := by decide +kernel
theorem d_law_28 : decode code 28 = .ok (.iaload, 1) := by decide +kernel
theorem d_law_29 : decode code 29 = .ok (.bipush 7, 2) := by decide +kernel
theorem d_law_31 : decode code 31 = .ok (.iand, 1) := by decide +kernel
theorem d_law_32 : decode code 32 = .ok (.tableswitch 273 0 7 #[48, 111, 124, 147, 170, 183, 216, 250], 48) := by decide +kernel
theorem d_law_80 : decode code 80 = .ok (.aload_n 1, 1) := by decide +kernel
theorem d_law_81 : decode code 81 = .ok (.aload_n 0, 1) := by decide +kernel
theorem d_law_82 : decode code 82 = .ok (.iload_n 3, 1) := by decide +kernel
theorem d_law_83 : decode code 83 = .ok (.iconst 1, 1) := by decide +kernel
theorem d_law_84 : decode code 84 = .ok (.iadd, 1) := by decide +kernel
theorem d_law_85 : decode code 85 = .ok (.iaload, 1) := by decide +kernel
theorem d_law_86 : decode code 86 = .ok (.i2l, 1) := by decide +kernel
theorem d_law_87 : decode code 87 = .ok (.bipush 32, 2) := by decide +kernel
theorem d_law_89 : decode code 89 = .ok (.lshl, 1) := by decide +kernel
theorem d_law_90 : decode code 90 = .ok (.aload_n 0, 1) := by decide +kernel
theorem d_law_91 : decode code 91 = .ok (.iload_n 3, 1) := by decide +kernel
theorem d_law_92 : decode code 92 = .ok (.iconst 2, 1) := by decide +kernel
theorem d_law_93 : decode code 93 = .ok (.iadd, 1) := by decide +kernel
theorem d_law_94 : decode code 94 = .ok (.iaload, 1) := by decide +kernel
theorem d_law_95 : decode code 95 = .ok (.i2l, 1) := by decide +kernel
theorem d_law_96 : decode code 96 = .ok (.ldc2_w 13, 3) := by decide +kernel
theorem d_law_99 : decode code 99 = .ok (.land, 1) := by decide +kernel
theorem d_law_100 : decode code 100 = .ok (.lor, 1) := by decide +kernel
theorem d_law_101 : decode code 101 = .ok (.aload_n 0, 1) := by decide +kernel
theorem d_law_102 : decode code 102 = .ok (.iload_n 3, 1) := by decide +kernel
theorem d_law_103 : decode code 103 = .ok (.iconst 3, 1) := by decide +kernel
theorem d_law_104 : decode code 104 = .ok (.iadd, 1) := by decide +kernel
theorem d_law_105 : decode code 105 = .ok (.iaload, 1) := by decide +kernel
theorem d_law_106 : decode code 106 = .ok (.invokevirtual 15, 3) := by decide +kernel
theorem d_law_109 : decode code 109 = .ok (.aload_n 2, 1) := by decide +kernel
theorem d_law_110 : decode code 110 = .ok (.aload_n 0, 1) := by decide +kernel
theorem d_law_111 : decode code 111 = .ok (.iload_n 3, 1) := by decide +kernel
theorem d_law_112 : decode code 112 = .ok (.iconst 1, 1) := by decide +kernel
theorem d_law_113 : decode code 113 = .ok (.iadd, 1) := by decide +kernel
theorem d_law_114 : decode code 114 = .ok (.iaload, 1) := by decide +kernel
theorem d_law_115 : decode code 115 = .ok (.i2l, 1) := by decide +kernel
theorem d_law_116 : decode code 116 = .ok (.bipush 32, 2) := by decide +kernel
theorem d_law_118 : decode code 118 = .ok (.lshl, 1) := by decide +kernel
theorem d_law_119 : decode code 119 = .ok (.aload_n 0, 1) := by decide +kernel
theorem d_law_120 : decode code 120 = .ok (.iload_n 3, 1) := by decide +kernel
theorem d_law_121 : decode code 121 = .ok (.iconst 2, 1) := by decide +kernel
theorem d_law_122 : decode code 122 = .ok (.iadd, 1) := by decide +kernel
theorem d_law_123 : decode code 123 = .ok (.iaload, 1) := by decide +kernel
theorem d_law_124 : decode code 124 = .ok (.i2l, 1) := by decide +kernel
theorem d_law_125 : decode code 125 = .ok (.ldc2_w 13, 3) := by decide +kernel
theorem d_law_128 : decode code 128 = .ok (.land, 1) := by decide +kernel
theorem d_law_129 : decode code 129 = .ok (.lor, 1) := by decide +kernel
theorem d_law_130 : decode code 130 = .ok (.aload_n 0, 1) := by decide +kernel
theorem d_law_131 : decode code 131 = .ok (.iload_n 3, 1) := by decide +kernel
theorem d_law_132 : decode code 132 = .ok (.iconst 3, 1) := by decide +kernel
theorem d_law_133 : decode code 133 = .ok (.iadd, 1) := by decide +kernel
theorem d_law_134 : decode code 134 = .ok (.iaload, 1) := by decide +kernel
theorem d_law_135 : decode code 135 = .ok (.invokevirtual 19, 3) := by decide +kernel
theorem d_law_138 : decode code 138 = .ok (.if_icmp .eq 167, 3) := by decide +kernel
theorem d_law_141 : decode code 141 = .ok (.iconst 0, 1) := by decide +kernel
theorem d_law_142 : decode code 142 = .ok (.ireturn, 1) := by decide +kernel
theorem d_law_143 : decode code 143 = .ok (.aload_n 1, 1) := by decide +kernel
theorem d_law_144 : decode code 144 = .ok (.invokevirtual 20, 3) := by decide +kernel
theorem d_law_147 : decode code 147 = .ok (.aload_n 2, 1) := by decide +kernel
theorem d_law_148 : decode code 148 = .ok (.invokevirtual 24, 3) := by decide +kernel
theorem d_law_151 : decode code 151 = .ok (.if_icmp .eq 154, 3) := by decide +kernel
theorem d_law_154 : decode code 154 = .ok (.iconst 0, 1) := by decide +kernel
theorem d_law_155 : decode code 155 = .ok (.ireturn, 1) := by decide +kernel
theorem d_law_156 : decode code 156 = .ok (.aload_n 1, 1) := by decide +kernel
theorem d_law_157 : decode code 157 = .ok (.aload_n 0, 1) := by decide +kernel
theorem d_law_158 : decode code 158 = .ok (.iload_n 3, 1) := by decide +kernel
theorem d_law_159 : decode code 159 = .ok (.iconst 1, 1) := by decide +kernel
theorem d_law_160 : decode code 160 = .ok (.iadd, 1) := by decide +kernel
theorem d_law_161 : decode code 161 = .ok (.iaload, 1) := by decide +kernel
theorem d_law_162 : decode code 162 = .ok (.invokevirtual 25, 3) := by decide +kernel
theorem d_law_165 : decode code 165 = .ok (.aload_n 2, 1) := by decide +kernel
theorem d_law_166 : decode code 166 = .ok (.aload_n 0, 1) := by decide +kernel
theorem d_law_167 : decode code 167 = .ok (.iload_n 3, 1) := by decide +kernel
theorem d_law_168 : decode code 168 = .ok (.iconst 1, 1) := by decide +kernel
theorem d_law_169 : decode code 169 = .ok (.iadd, 1) := by decide +kernel
theorem d_law_170 : decode code 170 = .ok (.iaload, 1) := by decide +kernel
theorem d_law_171 : decode code 171 = .ok (.invokevirtual 29, 3) := by decide +kernel
theorem d_law_174 : decode code 174 = .ok (.if_icmp .eq 131, 3) := by decide +kernel
theorem d_law_177 : decode code 177 = .ok (.iconst 0, 1) := by decide +kernel
theorem d_law_178 : decode code 178 = .ok (.ireturn, 1) := by decide +kernel
theorem d_law_179 : decode code 179 = .ok (.aload_n 1, 1) := by decide +kernel
theorem d_law_180 : decode code 180 = .ok (.aload_n 0, 1) := by decide +kernel
theorem d_law_181 : decode code 181 = .ok (.iload_n 3, 1) := by decide +kernel
theorem d_law_182 : decode code 182 = .ok (.iconst 1, 1) := by decide +kernel
theorem d_law_183 : decode code 183 = .ok (.iadd, 1) := by decide +kernel
theorem d_law_184 : decode code 184 = .ok (.iaload, 1) := by decide +kernel
theorem d_law_185 : decode code 185 = .ok (.invokevirtual 30, 3) := by decide +kernel
theorem d_law_188 : decode code 188 = .ok (.aload_n 2, 1) := by decide +kernel
theorem d_law_189 : decode code 189 = .ok (.aload_n 0, 1) := by decide +kernel
theorem d_law_190 : decode code 190 = .ok (.iload_n 3, 1) := by decide +kernel
theorem d_law_191 : decode code 191 = .ok (.iconst 1, 1) := by decide +kernel
theorem d_law_192 : decode code 192 = .ok (.iadd, 1) := by decide +kernel
theorem d_law_193 : decode code 193 = .ok (.iaload, 1) := by decide +kernel
theorem d_law_194 : decode code 194 = .ok (.invokevirtual 34, 3) := by decide +kernel
theorem d_law_197 : decode code 197 = .ok (.if_icmp .eq 108, 3) := by decide +kernel
theorem d_law_200 : decode code 200 = .ok (.iconst 0, 1) := by decide +kernel
theorem d_law_201 : decode code 201 = .ok (.ireturn, 1) := by decide +kernel
theorem d_law_202 : decode code 202 = .ok (.aload_n 1, 1) := by decide +kernel
theorem d_law_203 : decode code 203 = .ok (.invokevirtual 35, 3) := by decide +kernel
theorem d_law_206 : decode code 206 = .ok (.aload_n 2, 1) := by decide +kernel
theorem d_law_207 : decode code 207 = .ok (.invokevirtual 38, 3) := by decide +kernel
theorem d_law_210 : decode code 210 = .ok (.if_icmp .eq 95, 3) := by decide +kernel
theorem d_law_213 : decode code 213 = .ok (.iconst 0, 1) := by decide +kernel
theorem d_law_214 : decode code 214 = .ok (.ireturn, 1) := by decide +kernel
theorem d_law_215 : decode code 215 = .ok (.aload_n 1, 1) := by decide +kernel
theorem d_law_216 : decode code 216 = .ok (.aload_n 0, 1) := by decide +kernel
theorem d_law_217 : decode code 217 = .ok (.iload_n 3, 1) := by decide +kernel
theorem d_law_218 : decode code 218 = .ok (.iconst 1, 1) := by decide +kernel
theorem d_law_219 : decode code 219 = .ok (.iadd, 1) := by decide +kernel
theorem d_law_220 : decode code 220 = .ok (.iaload, 1) := by decide +kernel
theorem d_law_221 : decode code 221 = .ok (.aload_n 0, 1) := by decide +kernel
theorem d_law_222 : decode code 222 = .ok (.iload_n 3, 1) := by decide +kernel
theorem d_law_223 : decode code 223 = .ok (.iconst 2, 1) := by decide +kernel
theorem d_law_224 : decode code 224 = .ok (.iadd, 1) := by decide +kernel
theorem d_law_225 : decode code 225 = .ok (.iaload, 1) := by decide +kernel
theorem d_law_226 : decode code 226 = .ok (.invokevirtual 39, 3) := by decide +kernel
theorem d_law_229 : decode code 229 = .ok (.aload_n 2, 1) := by decide +kernel
theorem d_law_230 : decode code 230 = .ok (.aload_n 0, 1) := by decide +kernel
theorem d_law_231 : decode code 231 = .ok (.iload_n 3, 1) := by decide +kernel
theorem d_law_232 : decode code 232 = .ok (.iconst 1, 1) := by decide +kernel
theorem d_law_233 : decode code 233 = .ok (.iadd, 1) := by decide +kernel
theorem d_law_234 : decode code 234 = .ok (.iaload, 1) := by decide +kernel
theorem d_law_235 : decode code 235 = .ok (.aload_n 0, 1) := by decide +kernel
theorem d_law_236 : decode code 236 = .ok (.iload_n 3, 1) := by decide +kernel
theorem d_law_237 : decode code 237 = .ok (.iconst 2, 1) := by decide +kernel
theorem d_law_238 : decode code 238 = .ok (.iadd, 1) := by decide +kernel
theorem d_law_239 : decode code 239 = .ok (.iaload, 1) := by decide +kernel
theorem d_law_240 : decode code 240 = .ok (.invokevirtual 43, 3) := by decide +kernel
theorem d_law_243 : decode code 243 = .ok (.if_icmp .eq 62, 3) := by decide +kernel
theorem d_law_246 : decode code 246 = .ok (.iconst 0, 1) := by decide +kernel
theorem d_law_247 : decode code 247 = .ok (.ireturn, 1) := by decide +kernel
theorem d_law_248 : decode code 248 = .ok (.aload_n 1, 1) := by decide +kernel
theorem d_law_249 : decode code 249 = .ok (.aload_n 0, 1) := by decide +kernel
theorem d_law_250 : decode code 250 = .ok (.iload_n 3, 1) := by decide +kernel
theorem d_law_251 : decode code 251 = .ok (.iconst 1, 1) := by decide +kernel
theorem d_law_252 : decode code 252 = .ok (.iadd, 1) := by decide +kernel
theorem d_law_253 : decode code 253 = .ok (.iaload, 1) := by decide +kernel
theorem d_law_254 : decode code 254 = .ok (.aload_n 0, 1) := by decide +kernel
theorem d_law_255 : decode code 255 = .ok (.iload_n 3, 1) := by decide +kernel
theorem d_law_256 : decode code 256 = .ok (.iconst 2, 1) := by decide +kernel
theorem d_law_257 : decode code 257 = .ok (.iadd, 1) := by decide +kernel
theorem d_law_258 : decode code 258 = .ok (.iaload, 1) := by decide +kernel
theorem d_law_259 : decode code 259 = .ok (.invokevirtual 44, 3) := by decide +kernel
theorem d_law_262 : decode code 262 = .ok (.aload_n 2, 1) := by decide +kernel
theorem d_law_263 : decode code 263 = .ok (.aload_n 0, 1) := by decide +kernel
theorem d_law_264 : decode code 264 = .ok (.iload_n 3, 1) := by decide +kernel
theorem d_law_265 : decode code 265 = .ok (.iconst 1, 1) := by decide +kernel
theorem d_law_266 : decode code 266 = .ok (.iadd, 1) := by decide +kernel
theorem d_law_267 : decode code 267 = .ok (.iaload, 1) := by decide +kernel
theorem d_law_268 : decode code 268 = .ok (.aload_n 0, 1) := by decide +kernel
theorem d_law_269 : decode code 269 = .ok (.iload_n 3, 1) := by decide +kernel
theorem d_law_270 : decode code 270 = .ok (.iconst 2, 1) := by decide +kernel
theorem d_law_271 : decode code 271 = .ok (.iadd, 1) := by decide +kernel
theorem d_law_272 : decode code 272 = .ok (.iaload, 1) := by decide +kernel
theorem d_law_273 : decode code 273 = .ok (.invokevirtual 48, 3) := by decide +kernel
theorem d_law_276 : decode code 276 = .ok (.lcmp, 1) := by decide +kernel
theorem d_law_277 : decode code 277 = .ok (.ifCond .eq 28, 3) := by decide +kernel
theorem d_law_280 : decode code 280 = .ok (.iconst 0, 1) := by decide +kernel
theorem d_law_281 : decode code 281 = .ok (.ireturn, 1) := by decide +kernel
theorem d_law_282 : decode code 282 = .ok (.aload_n 1, 1) := by decide +kernel
theorem d_law_283 : decode code 283 = .ok (.aload_n 0, 1) := by decide +kernel
theorem d_law_284 : decode code 284 = .ok (.iload_n 3, 1) := by decide +kernel
theorem d_law_285 : decode code 285 = .ok (.iconst 1, 1) := by decide +kernel
theorem d_law_286 : decode code 286 = .ok (.iadd, 1) := by decide +kernel
theorem d_law_287 : decode code 287 = .ok (.iaload, 1) := by decide +kernel
theorem d_law_288 : decode code 288 = .ok (.invokevirtual 49, 3) := by decide +kernel
theorem d_law_291 : decode code 291 = .ok (.aload_n 2, 1) := by decide +kernel
theorem d_law_292 : decode code 292 = .ok (.aload_n 0, 1) := by decide +kernel
theorem d_law_293 : decode code 293 = .ok (.iload_n 3, 1) := by decide +kernel
theorem d_law_294 : decode code 294 = .ok (.iconst 1, 1) := by decide +kernel
theorem d_law_295 : decode code 295 = .ok (.iadd, 1) := by decide +kernel
theorem d_law_296 : decode code 296 = .ok (.iaload, 1) := by decide +kernel
theorem d_law_297 : decode code 297 = .ok (.invokevirtual 52, 3) := by decide +kernel
theorem d_law_300 : decode code 300 = .ok (.if_icmp .eq 5, 3) := by decide +kernel
theorem d_law_303 : decode code 303 = .ok (.iconst 0, 1) := by decide +kernel
theorem d_law_304 : decode code 304 = .ok (.ireturn, 1) := by decide +kernel
theorem d_law_305 : decode code 305 = .ok (.iinc 3 4, 3) := by decide +kernel
theorem d_law_308 : decode code 308 = .ok (.goto (-290), 3) := by decide +kernel
theorem d_law_311 : decode code 311 = .ok (.iconst 1, 1) := by decide +kernel
theorem d_law_312 : decode code 312 = .ok (.ireturn, 1) := by decide +kernel
end
section
/-! the two worlds: the desk's cells and the model's, with any further cells R behind them -/
def epl (ad eA eS : Nat → Nat) (eN : Nat → Int32) (n : Nat) : va_W := (List.range n).map (fun k => (ad (k + 6), .inr (2, [.int (nI (eA k)), .int (nI (eS k)), .int (eN k)])))
abbrev dW (cs : Nat → ClassId) (ad : Nat → Nat) (sz : Nat) (cu pw : Int32) (ol nx en : Nat) (rc : Int32) (B Rt Tp : Nat → Int32) (eA eS : Nat → Nat) (eN : Nat → Int32) (R : va_W) : va_W :=
  (ad 0, .inr (0, [.ref (ad 1), .ref (ad 4), .int (nI sz), .int cu, .int pw, .ref (ad 5), .int (nI ol), .int (nI nx), .int (nI en), .int rc])) :: (ad 1, .inr (1, [.ref (ad 2), .ref (ad 3)])) :: (ad 2, .inl (cs 0, 800, .inl B)) :: (ad 3, .inl (cs 1, 40, .inl Rt)) :: (ad 4, .inl (cs 0, 100, .inl Tp)) :: (ad 5, .inl (cs 2, 520, .inr (.inr (.inr (.inr (fun j => some (ad (j + 6)))))))) :: (epl ad eA eS eN 520 ++ R)
abbrev mW (cs : Nat → ClassId) (bd : Nat → Nat) (td kp : Nat) (nx wh of cu : Int32) (T Rc Sz Nm By : Nat → Int32) (R : va_W) : va_W :=
  (bd 0, .inr (3, [.ref (bd 1), .int (nI td), .int (nI kp), .ref (bd 2), .ref (bd 3), .ref (bd 4), .ref (bd 5), .int nx, .int wh, .int of, .int cu])) :: (bd 1, .inl (cs 3, 100, .inl T)) :: (bd 2, .inl (cs 1, 41, .inl Rc)) :: (bd 3, .inl (cs 3, 41, .inl Sz)) :: (bd 4, .inl (cs 3, 41, .inl Nm)) :: (bd 5, .inl (cs 3, 4100, .inl By)) :: R
theorem up_same {α : Type} (f : Nat → α) (k : Nat) : va_up f k (f k) = f := by
  funext j
  by_cases h : j = k
  · subst h; exact va_up_self _ _ _
  · exact va_up_ne _ _ h
theorem epl_len {ad eA eS : Nat → Nat} {eN : Nat → Int32} {n : Nat} : (epl ad eA eS eN n).length = n := by simp [epl]
theorem epl_get {ad eA eS : Nat → Nat} {eN : Nat → Int32} {n k : Nat} (hk : k < n) : (epl ad eA eS eN n)[k]? = some (ad (k + 6), .inr (2, [.int (nI (eA k)), .int (nI (eS k)), .int (eN k)])) := by
  simp [epl, hk]
theorem epl_set {ad eA eS : Nat → Nat} {eN : Nat → Int32} {n k : Nat} (hk : k < n) (a' s' : Nat) (n' : Int32) : (epl ad eA eS eN n).set k (ad (k + 6), .inr (2, [.int (nI a'), .int (nI s'), .int n'])) = epl ad (va_up eA k a') (va_up eS k s') (va_up eN k n') n := by
  apply List.ext_getElem?
  intro j
  by_cases hj : j = k
  · subst hj
    rw [List.getElem?_set_self (by rw [epl_len]; exact hk), epl_get hk, va_up_self, va_up_self, va_up_self]
  · rw [List.getElem?_set_ne (Ne.symm hj)]
    by_cases hn : j < n
    · rw [epl_get hn, epl_get hn, va_up_ne _ _ hj, va_up_ne _ _ hj, va_up_ne _ _ hj]
    · rw [List.getElem?_eq_none (by rw [epl_len]; omega), List.getElem?_eq_none (by rw [epl_len]; omega)]
section DW
variable {cs : Nat → ClassId} {ad : Nat → Nat} {sz : Nat} {cu pw : Int32} {ol nx en : Nat} {rc : Int32} {B Rt Tp : Nat → Int32} {eA eS : Nat → Nat} {eN : Nat → Int32} {R : va_W} {k : Nat}
theorem dW_e (hk : k < 520) : (dW cs ad sz cu pw ol nx en rc B Rt Tp eA eS eN R)[k + 6]? = some (ad (k + 6), .inr (2, [.int (nI (eA k)), .int (nI (eS k)), .int (eN k)])) := by
  simp only [dW, List.getElem?_cons_succ]
  rw [List.getElem?_append_left (by rw [epl_len]; exact hk)]
  exact epl_get hk
theorem dW_set (hk : k < 520) (a' s' : Nat) (n' : Int32) : (dW cs ad sz cu pw ol nx en rc B Rt Tp eA eS eN R).set (k + 6) (ad (k + 6), .inr (2, [.int (nI a'), .int (nI s'), .int n'])) = dW cs ad sz cu pw ol nx en rc B Rt Tp (va_up eA k a') (va_up eS k s') (va_up eN k n') R := by
  have h : (epl ad eA eS eN 520 ++ R).set k (ad (k + 6), .inr (2, [.int (nI a'), .int (nI s'), .int n'])) = epl ad (va_up eA k a') (va_up eS k s') (va_up eN k n') 520 ++ R := by
    rw [List.set_append_left _ _ (by rw [epl_len]; exact hk), epl_set hk]
  simp only [dW, List.set_cons_succ, h]
theorem dW_setA (hk : k < 520) {v : Nat} : (dW cs ad sz cu pw ol nx en rc B Rt Tp eA eS eN R).set (k + 6) (ad (k + 6), .inr (2, [.int (nI (eA k)), .int (nI (eS k)), .int (eN k)].set 0 (.int (nI v)))) = dW cs ad sz cu pw ol nx en rc B Rt Tp (va_up eA k v) eS eN R := by
  have h := dW_set (cs := cs) (sz := sz) (cu := cu) (pw := pw) (ol := ol) (nx := nx) (en := en) (rc := rc) (B := B) (Rt := Rt) (Tp := Tp) (ad := ad) (eA := eA) (eS := eS) (eN := eN) (R := R) hk v (eS k) (eN k)
  rw [up_same, up_same] at h
  exact h
theorem dW_setS (hk : k < 520) {v : Nat} : (dW cs ad sz cu pw ol nx en rc B Rt Tp eA eS eN R).set (k + 6) (ad (k + 6), .inr (2, [.int (nI (eA k)), .int (nI (eS k)), .int (eN k)].set 1 (.int (nI v)))) = dW cs ad sz cu pw ol nx en rc B Rt Tp eA (va_up eS k v) eN R := by
  have h := dW_set (cs := cs) (sz := sz) (cu := cu) (pw := pw) (ol := ol) (nx := nx) (en := en) (rc := rc) (B := B) (Rt := Rt) (Tp := Tp) (ad := ad) (eA := eA) (eS := eS) (eN := eN) (R := R) hk (eA k) v (eN k)
  rw [up_same, up_same] at h
  exact h
theorem dW_setN (hk : k < 520) {v : Int32} : (dW cs ad sz cu pw ol nx en rc B Rt Tp eA eS eN R).set (k + 6) (ad (k + 6), .inr (2, [.int (nI (eA k)), .int (nI (eS k)), .int (eN k)].set 2 (.int v))) = dW cs ad sz cu pw ol nx en rc B Rt Tp eA eS (va_up eN k v) R := by
  have h := dW_set (cs := cs) (sz := sz) (cu := cu) (pw := pw) (ol := ol) (nx := nx) (en := en) (rc := rc) (B := B) (Rt := Rt) (Tp := Tp) (ad := ad) (eA := eA) (eS := eS) (eN := eN) (R := R) hk (eA k) (eS k) v
  rw [up_same, up_same] at h
  exact h
end DW
/-! plain numbers -/
/-- sectors that n bytes take -/
def nd (n : Nat) : Nat := if n ≤ 12 then 1 else (n + 11) / 12
theorem nd_max (n : Nat) : max 1 ((n + 12 - 1) / 12) = nd n := by
  unfold nd
  split <;> omega
theorem nd_pos (n : Nat) : 1 ≤ nd n := by
  unfold nd
  split <;> omega
theorem nd_le {n : Nat} (h : n ≤ 100) : nd n ≤ 9 := by
  unfold nd
  split <;> omega
theorem nd_le2 {n : Nat} (h : n ≤ 255) : nd n ≤ 22 := by
  unfold nd
  split <;> omega
/-- sectors of m entries from a on, by their sizes -/
def us (f : Nat → Nat) (a : Nat) : Nat → Nat
  | 0 => 0
  | m + 1 => us f a m + nd (f (a + m))
/-- records among m entries from a on, by their numbers -/
def mn (q : Nat → Int32) (a : Nat) : Nat → Nat
  | 0 => 0
  | m + 1 => mn q a m + (if q (a + m) = -1 then 0 else 1)
theorem us_ge (f : Nat → Nat) (a : Nat) : ∀ m, m ≤ us f a m
  | 0 => Nat.le_refl 0
  | m + 1 => by
    have h1 := us_ge f a m
    have h2 := nd_pos (f (a + m))
    show m + 1 ≤ us f a m + nd (f (a + m))
    omega
theorem us_le (f : Nat → Nat) (a : Nat) : ∀ m, (∀ j, j < m → f (a + j) ≤ 100) → us f a m ≤ 9 * m
  | 0, _ => Nat.le_refl 0
  | m + 1, h => by
    have h1 := us_le f a m (fun j hj => h j (by omega))
    have h2 := nd_le (h m (by omega))
    show us f a m + nd (f (a + m)) ≤ _
    omega
theorem mn_le (q : Nat → Int32) (a : Nat) : ∀ m, mn q a m ≤ m
  | 0 => Nat.le_refl 0
  | m + 1 => by
    have h1 := mn_le q a m
    show mn q a m + (if q (a + m) = -1 then 0 else 1) ≤ _
    split <;> omega
theorem us_mono (f : Nat → Nat) (a : Nat) {m n : Nat} (h : m ≤ n) : us f a m ≤ us f a n := by
  induction n with
  | zero =>
    have : m = 0 := by omega
    subst this
    exact Nat.le_refl _
  | succ n ih =>
    by_cases hm : m = n + 1
    · subst hm
      exact Nat.le_refl _
    · have := ih (by omega)
      show us f a m ≤ us f a n + nd (f (a + n))
      omega
theorem us_congr {f g : Nat → Nat} {a b : Nat} : ∀ m, (∀ j, j < m → f (a + j) = g (b + j)) → us f a m = us g b m
  | 0, _ => rfl
  | m + 1, h => by
    show us f a m + nd (f (a + m)) = us g b m + nd (g (b + m))
    rw [us_congr m (fun j hj => h j (by omega)), h m (by omega)]
theorem us_split (f : Nat → Nat) (a m : Nat) : ∀ n, us f a (m + n) = us f a m + us f (a + m) n
  | 0 => rfl
  | n + 1 => by
    show us f a (m + n) + nd (f (a + (m + n))) = us f a m + (us f (a + m) n + nd (f (a + m + n)))
    rw [us_split f a m n, Nat.add_assoc a m n]
    omega
theorem mn_congr {f g : Nat → Int32} {a b : Nat} : ∀ m, (∀ j, j < m → (f (a + j) = -1 ↔ g (b + j) = -1)) → mn f a m = mn g b m
  | 0, _ => rfl
  | m + 1, h => by
    show mn f a m + (if f (a + m) = -1 then 0 else 1) = mn g b m + (if g (b + m) = -1 then 0 else 1)
    rw [mn_congr m (fun j hj => h j (by omega))]
    by_cases q : f (a + m) = -1
    · rw [if_pos q, if_pos ((h m (by omega)).mp q)]
    · rw [if_neg q, if_neg (fun z => q ((h m (by omega)).mpr z))]
theorem mn_split (f : Nat → Int32) (a m : Nat) : ∀ n, mn f a (m + n) = mn f a m + mn f (a + m) n
  | 0 => rfl
  | n + 1 => by
    show mn f a (m + n) + (if f (a + (m + n)) = -1 then 0 else 1) = mn f a m + (mn f (a + m) n + (if f (a + m + n) = -1 then 0 else 1))
    rw [mn_split f a m n, Nat.add_assoc a m n]
    omega
/-- a disk's byte, and two of them -/
def r1 (B : Nat → Int32) (s k : Nat) : Int32 := B (20 * s + k) &&& 255
def r2 (B : Nat → Int32) (s k : Nat) : Int32 := (B (20 * s + k) &&& 255) <<< ((8 : Int32) &&& 31) ||| (B (20 * s + k + 1) &&& 255)
theorem r1_lt (B : Nat → Int32) (s k : Nat) : ∃ n : Nat, n < 256 ∧ r1 B s k = nI n := by
  obtain ⟨j, h1, h2⟩ := pk_andE (B (20 * s + k)) (m := 255) 8 (by decide)
  exact ⟨j, h1, h2⟩
end
section
/-! leaves: the disk's four, an entry's need, sectorsOf -/
def w1 (B : Nat → Int32) (i : Nat) (v : Int32) : Nat → Int32 := upd B i v.toInt8.toInt32
def w2 (B : Nat → Int32) (i : Nat) (v : Int32) : Nat → Int32 := upd (upd B i (v >>> ((8 : Int32) &&& 31)).toInt8.toInt32) (i + 1) v.toInt8.toInt32
set_option maxHeartbeats 4000000 in
set_option maxRecDepth 100000 in
/-- a byte of sector i -/
theorem c_K_readOne (l : Launch) {D : va_G} {A : Nat → Prop} {cs : Nat → ClassId} {ad : Nat → Nat} {sz : Nat} {cu pw : Int32} {ol nx en : Nat} {rc : Int32} {B Rt Tp : Nat → Int32} {eA eS : Nat → Nat} {eN : Nat → Int32} {R : va_W} {i j : Nat} (hi : 20 * i + j < 800) : Met l y_K_readOne (Cond.code y_K_readOne b_K_readOne 3 (some .int) :: gw) (rmn 0) (va_Pc [.ref (ad 1), .int (nI i), .int (nI j)] (St D cs A (dW cs ad sz cu pw ol nx en rc B Rt Tp eA eS eN R))) (vp_Si (fun r => r = r1 B i j)) 0 0 (fun _ => False) := by
  refine x_start (by decide) (Nat.le_of_ble_eq_true rfl) ?_
  intro p e s m below meth c hB hr hlk hin hP hD ls hl
  have hx := hB.1
  have hb := hB.2.1
  have hown := hB.2.2.2.1
  have hts := hB.2.2.2.2.1
  have hK := hB.2.2.2.2.2.1
  have hl : lv_has ls 3 [(0, .ref (ad 1)), (1, .int (nI i)), (2, .int (nI j))] := hl
  refine lv_aload_n hx hb d_K_readOne_0 rfl (lv_at hl 0 rfl) ?_
  refine gf_K_9 (v := .ref (ad 2)) hB hP 1 rfl rfl d_K_readOne_1 ?_
  refine lv_bipush (v := nI 20) hx hb d_K_readOne_4 (by decide) ?_
  refine lv_iload_n hx hb d_K_readOne_6 rfl (lv_at hl 1 rfl) ?_
  refine n_mul hx hb d_K_readOne_7 ?_
  refine lv_iload_n hx hb d_K_readOne_8 rfl (lv_at hl 2 rfl) ?_
  refine n_add hx hb d_K_readOne_9 ?_
  refine n_bald hx hb hK hP 2 0 rfl rfl (by omega) (by decide) d_K_readOne_10 ?_
  refine lv_sipush (v := 255) hx hb d_K_readOne_11 (by decide) ?_
  refine lv_iand hx hb d_K_readOne_14 ?_
  exact r_iS hB hr hlk rfl d_K_readOne_15
set_option maxHeartbeats 4000000 in
set_option maxRecDepth 100000 in
/-- two bytes of sector i -/
theorem c_K_readTwo (l : Launch) {D : va_G} {A : Nat → Prop} {cs : Nat → ClassId} {ad : Nat → Nat} {sz : Nat} {cu pw : Int32} {ol nx en : Nat} {rc : Int32} {B Rt Tp : Nat → Int32} {eA eS : Nat → Nat} {eN : Nat → Int32} {R : va_W} {i j : Nat} (hi : 20 * i + j + 1 < 800) : Met l y_K_readTwo (Cond.code y_K_readTwo b_K_readTwo 3 (some .int) :: gw) (rmn 0) (va_Pc [.ref (ad 1), .int (nI i), .int (nI j)] (St D cs A (dW cs ad sz cu pw ol nx en rc B Rt Tp eA eS eN R))) (vp_Si (fun r => r = r2 B i j)) 0 0 (fun _ => False) := by
  refine x_start (by decide) (Nat.le_of_ble_eq_true rfl) ?_
  intro p e s m below meth c hB hr hlk hin hP hD ls hl
  have hx := hB.1
  have hb := hB.2.1
  have hown := hB.2.2.2.1
  have hts := hB.2.2.2.2.1
  have hK := hB.2.2.2.2.2.1
  have hl : lv_has ls 3 [(0, .ref (ad 1)), (1, .int (nI i)), (2, .int (nI j))] := hl
  refine lv_aload_n hx hb d_K_readTwo_0 rfl (lv_at hl 0 rfl) ?_
  refine gf_K_9 (v := .ref (ad 2)) hB hP 1 rfl rfl d_K_readTwo_1 ?_
  refine lv_bipush (v := nI 20) hx hb d_K_readTwo_4 (by decide) ?_
  refine lv_iload_n hx hb d_K_readTwo_6 rfl (lv_at hl 1 rfl) ?_
  refine n_mul hx hb d_K_readTwo_7 ?_
  refine lv_iload_n hx hb d_K_readTwo_8 rfl (lv_at hl 2 rfl) ?_
  refine n_add hx hb d_K_readTwo_9 ?_
  refine n_bald hx hb hK hP 2 0 rfl rfl (by omega) (by decide) d_K_readTwo_10 ?_
  refine lv_sipush (v := 255) hx hb d_K_readTwo_11 (by decide) ?_
  refine lv_iand hx hb d_K_readTwo_14 ?_
  refine lv_bipush (v := 8) hx hb d_K_readTwo_15 (by decide) ?_
  refine lv_ishl hx hb d_K_readTwo_17 ?_
  refine lv_aload_n hx hb d_K_readTwo_18 rfl (lv_at hl 0 rfl) ?_
  refine gf_K_9 (v := .ref (ad 2)) hB hP 1 rfl rfl d_K_readTwo_19 ?_
  refine lv_bipush (v := nI 20) hx hb d_K_readTwo_22 (by decide) ?_
  refine lv_iload_n hx hb d_K_readTwo_24 rfl (lv_at hl 1 rfl) ?_
  refine n_mul hx hb d_K_readTwo_25 ?_
  refine lv_iload_n hx hb d_K_readTwo_26 rfl (lv_at hl 2 rfl) ?_
  refine n_add hx hb d_K_readTwo_27 ?_
  refine lv_iconst (v := nI 1) hx hb d_K_readTwo_28 (by decide) ?_
  refine n_add hx hb d_K_readTwo_29 ?_
  refine n_bald hx hb hK hP 2 0 rfl rfl (by omega) (by decide) d_K_readTwo_30 ?_
  refine lv_sipush (v := 255) hx hb d_K_readTwo_31 (by decide) ?_
  refine lv_iand hx hb d_K_readTwo_34 ?_
  refine lv_ior hx hb d_K_readTwo_35 ?_
  exact r_iS hB hr hlk rfl d_K_readTwo_36
set_option maxHeartbeats 4000000 in
set_option maxRecDepth 100000 in
/-- a byte of sector i is written -/
theorem c_K_one (l : Launch) {D : va_G} {A : Nat → Prop} {cs : Nat → ClassId} {ad : Nat → Nat} {sz : Nat} {cu pw : Int32} {ol nx en : Nat} {rc : Int32} {B Rt Tp : Nat → Int32} {eA eS : Nat → Nat} {eN : Nat → Int32} {R : va_W} {i j : Nat} {v : Int32} (hi : 20 * i + j < 800) : Met l y_K_one (Cond.code y_K_one b_K_one 4 none :: gw) (rmn 0) (va_Pc [.ref (ad 1), .int (nI i), .int (nI j), .int v] (St D cs A (dW cs ad sz cu pw ol nx en rc B Rt Tp eA eS eN R))) (QV D A (fun z => z = dW cs ad sz cu pw ol nx en rc (w1 B (20 * i + j) v) Rt Tp eA eS eN R)) 0 0 A := by
  refine x_start (by decide) (Nat.le_of_ble_eq_true rfl) ?_
  intro p e s m below meth c hB hr hlk hin hP hD ls hl
  have hx := hB.1
  have hb := hB.2.1
  have hown := hB.2.2.2.1
  have hts := hB.2.2.2.2.1
  have hK := hB.2.2.2.2.2.1
  have hS : va_S A s.heap s.heap [] := va_S.rf
  have hl : lv_has ls 4 [(0, .ref (ad 1)), (1, .int (nI i)), (2, .int (nI j)), (3, .int v)] := hl
  refine lv_aload_n hx hb d_K_one_0 rfl (lv_at hl 0 rfl) ?_
  refine gf_K_9 (v := .ref (ad 2)) hB hP 1 rfl rfl d_K_one_1 ?_
  refine lv_bipush (v := nI 20) hx hb d_K_one_4 (by decide) ?_
  refine lv_iload_n hx hb d_K_one_6 rfl (lv_at hl 1 rfl) ?_
  refine n_mul hx hb d_K_one_7 ?_
  refine lv_iload_n hx hb d_K_one_8 rfl (lv_at hl 2 rfl) ?_
  refine n_add hx hb d_K_one_9 ?_
  refine lv_iload_n hx hb d_K_one_10 rfl (lv_at hl 3 rfl) ?_
  refine lv_i2b (v := v.toInt8.toInt32) hx hb d_K_one_11 rfl ?_
  refine n_bastB hx hb hK hP hD hS 2 0 rfl rfl (by omega) (by decide) d_K_one_12 (fun H locs hP hD hS => ?_)
  have hP : va_P D classes (dW cs ad sz cu pw ol nx en rc (upd B ((20 * i) + j) v.toInt8.toInt32) Rt Tp eA eS eN R) H := hP
  have hD : va_D A (dW cs ad sz cu pw ol nx en rc (upd B ((20 * i) + j) v.toInt8.toInt32) Rt Tp eA eS eN R) := hD
  exact r_vQ hB hr hlk hP hD hS rfl d_K_one_13
set_option maxHeartbeats 4000000 in
set_option maxRecDepth 100000 in
/-- two bytes of sector i are written -/
theorem c_K_two (l : Launch) {D : va_G} {A : Nat → Prop} {cs : Nat → ClassId} {ad : Nat → Nat} {sz : Nat} {cu pw : Int32} {ol nx en : Nat} {rc : Int32} {B Rt Tp : Nat → Int32} {eA eS : Nat → Nat} {eN : Nat → Int32} {R : va_W} {i j : Nat} {v : Int32} (hi : 20 * i + j + 1 < 800) : Met l y_K_two (Cond.code y_K_two b_K_two 4 none :: gw) (rmn 0) (va_Pc [.ref (ad 1), .int (nI i), .int (nI j), .int v] (St D cs A (dW cs ad sz cu pw ol nx en rc B Rt Tp eA eS eN R))) (QV D A (fun z => z = dW cs ad sz cu pw ol nx en rc (w2 B (20 * i + j) v) Rt Tp eA eS eN R)) 0 0 A := by
  refine x_start (by decide) (Nat.le_of_ble_eq_true rfl) ?_
  intro p e s m below meth c hB hr hlk hin hP hD ls hl
  have hx := hB.1
  have hb := hB.2.1
  have hown := hB.2.2.2.1
  have hts := hB.2.2.2.2.1
  have hK := hB.2.2.2.2.2.1
  have hS : va_S A s.heap s.heap [] := va_S.rf
  have hl : lv_has ls 4 [(0, .ref (ad 1)), (1, .int (nI i)), (2, .int (nI j)), (3, .int v)] := hl
  refine lv_aload_n hx hb d_K_two_0 rfl (lv_at hl 0 rfl) ?_
  refine gf_K_9 (v := .ref (ad 2)) hB hP 1 rfl rfl d_K_two_1 ?_
  refine lv_bipush (v := nI 20) hx hb d_K_two_4 (by decide) ?_
  refine lv_iload_n hx hb d_K_two_6 rfl (lv_at hl 1 rfl) ?_
  refine n_mul hx hb d_K_two_7 ?_
  refine lv_iload_n hx hb d_K_two_8 rfl (lv_at hl 2 rfl) ?_
  refine n_add hx hb d_K_two_9 ?_
  refine lv_iload_n hx hb d_K_two_10 rfl (lv_at hl 3 rfl) ?_
  refine lv_bipush (v := 8) hx hb d_K_two_11 (by decide) ?_
  refine lv_ishr hx hb d_K_two_13 ?_
  refine lv_i2b (v := (v >>> (8 &&& 31)).toInt8.toInt32) hx hb d_K_two_14 rfl ?_
  refine n_bastB hx hb hK hP hD hS 2 0 rfl rfl (by omega) (by decide) d_K_two_15 (fun H locs hP hD hS => ?_)
  have hP : va_P D classes (dW cs ad sz cu pw ol nx en rc (upd B ((20 * i) + j) ((v >>> (8 &&& 31)).toInt8.toInt32)) Rt Tp eA eS eN R) H := hP
  have hD : va_D A (dW cs ad sz cu pw ol nx en rc (upd B ((20 * i) + j) ((v >>> (8 &&& 31)).toInt8.toInt32)) Rt Tp eA eS eN R) := hD
  refine lv_aload_n hx hb d_K_two_16 rfl (lv_at hl 0 rfl) ?_
  refine gf_K_9 (v := .ref (ad 2)) hB hP 1 rfl rfl d_K_two_17 ?_
  refine lv_bipush (v := nI 20) hx hb d_K_two_20 (by decide) ?_
  refine lv_iload_n hx hb d_K_two_22 rfl (lv_at hl 1 rfl) ?_
  refine n_mul hx hb d_K_two_23 ?_
  refine lv_iload_n hx hb d_K_two_24 rfl (lv_at hl 2 rfl) ?_
  refine n_add hx hb d_K_two_25 ?_
  refine lv_iconst (v := nI 1) hx hb d_K_two_26 (by decide) ?_
  refine n_add hx hb d_K_two_27 ?_
  refine lv_iload_n hx hb d_K_two_28 rfl (lv_at hl 3 rfl) ?_
  refine lv_i2b (v := v.toInt8.toInt32) hx hb d_K_two_29 rfl ?_
  refine n_bastB hx hb hK hP hD hS 2 0 rfl rfl (by omega) (by decide) d_K_two_30 (fun H locs hP hD hS => ?_)
  have hP : va_P D classes (dW cs ad sz cu pw ol nx en rc (upd (upd B ((20 * i) + j) ((v >>> (8 &&& 31)).toInt8.toInt32)) (((20 * i) + j) + 1) v.toInt8.toInt32) Rt Tp eA eS eN R) H := hP
  have hD : va_D A (dW cs ad sz cu pw ol nx en rc (upd (upd B ((20 * i) + j) ((v >>> (8 &&& 31)).toInt8.toInt32)) (((20 * i) + j) + 1) v.toInt8.toInt32) Rt Tp eA eS eN R) := hD
  exact r_vQ hB hr hlk hP hD hS rfl d_K_two_31
set_option maxHeartbeats 4000000 in
set_option maxRecDepth 100000 in
/-- sectors of entry k -/
theorem c_E_need (l : Launch) {D : va_G} {A : Nat → Prop} {cs : Nat → ClassId} {ad : Nat → Nat} {sz : Nat} {cu pw : Int32} {ol nx en : Nat} {rc : Int32} {B Rt Tp : Nat → Int32} {eA eS : Nat → Nat} {eN : Nat → Int32} {R : va_W} {k : Nat} (hk : k < 520) (hs : eS k ≤ 1000) : Met l y_E_need (Cond.code y_E_need b_E_need 1 (some .int) :: gw) (rmn 1) (va_Pc [.ref (ad (k + 6))] (St D cs A (dW cs ad sz cu pw ol nx en rc B Rt Tp eA eS eN R))) (vp_Si (fun r => r = nI (nd (eS k)))) 0 0 (fun _ => False) := by
  refine x_start (by decide) (Nat.le_of_ble_eq_true rfl) ?_
  intro p e s m below meth c hB hr hlk hin hP hD ls hl
  have hx := hB.1
  have hb := hB.2.1
  have hown := hB.2.2.2.1
  have hts := hB.2.2.2.2.1
  have hK := hB.2.2.2.2.2.1
  have hl : lv_has ls 1 [(0, .ref (ad (k + 6)))] := hl
  refine lv_iconst (v := nI 1) hx hb d_E_need_0 (by decide) ?_
  refine lv_aload_n hx hb d_E_need_1 rfl (lv_at hl 0 rfl) ?_
  refine gf_E_9 (v := .int (nI (eS k))) hB hP (k + 6) (dW_e hk) rfl d_E_need_2 ?_
  refine lv_bipush (v := nI 12) hx hb d_E_need_5 (by decide) ?_
  refine n_add hx hb d_E_need_7 ?_
  refine lv_iconst (v := nI 1) hx hb d_E_need_8 (by decide) ?_
  refine n_sub hx hb (by omega) d_E_need_9 ?_
  refine lv_bipush (v := nI 12) hx hb d_E_need_10 (by decide) ?_
  refine n_div hx hb (by omega) (by decide) (by decide) d_E_need_12 ?_
  refine x_max hB mm_E_max hl.1 (Nat.le_of_ble_eq_true rfl) (Nat.le_of_ble_eq_true rfl) (Nat.le_of_ble_eq_true rfl) (Nat.le_of_ble_eq_true rfl) (by omega) (by omega) d_E_need_13 ?_
  refine tp_i (y := nI (nd (eS k))) (congrArg nI (nd_max _)) ?_
  exact r_iS hB hr hlk rfl d_E_need_16
set_option maxHeartbeats 4000000 in
set_option maxRecDepth 100000 in
/-- sectors of n bytes -/
theorem c_M_sectorsOf (l : Launch) {D : va_G} {A : Nat → Prop} {cs : Nat → ClassId} {ws : va_W} {n : Nat} (hn : n ≤ 1000) : Met l y_M_sectorsOf (Cond.code y_M_sectorsOf b_M_sectorsOf 1 (some .int) :: gw) (rmn 0) (va_Pc [.int (nI n)] (St D cs A (ws))) (vp_Si (fun r => r = nI (nd n))) 0 0 (fun _ => False) := by
  refine x_start (by decide) (Nat.le_of_ble_eq_true rfl) ?_
  intro p e s m below meth c hB hr hlk hin hP hD ls hl
  have hx := hB.1
  have hb := hB.2.1
  have hown := hB.2.2.2.1
  have hts := hB.2.2.2.2.1
  have hK := hB.2.2.2.2.2.1
  have hl : lv_has ls 1 [(0, .int (nI n))] := hl
  refine lv_iload_n hx hb d_M_sectorsOf_0 rfl (lv_at hl 0 rfl) ?_
  refine lv_bipush (v := nI 12) hx hb d_M_sectorsOf_1 (by decide) ?_
  refine n_icmp_gt hx hb (by omega) (by omega) (tgt := 10) d_M_sectorsOf_3 (by decide) (fun hc3 => ?_) (fun hc3 => ?_)
  · skip
    refine lv_iconst (v := nI 1) hx hb d_M_sectorsOf_10 (by decide) ?_
    refine lv_iload_n hx hb d_M_sectorsOf_11 rfl (lv_at hl 0 rfl) ?_
    refine lv_bipush (v := nI 12) hx hb d_M_sectorsOf_12 (by decide) ?_
    refine n_sub hx hb (by omega) d_M_sectorsOf_14 ?_
    refine lv_bipush (v := nI 11) hx hb d_M_sectorsOf_15 (by decide) ?_
    refine n_add hx hb d_M_sectorsOf_17 ?_
    refine lv_bipush (v := nI 12) hx hb d_M_sectorsOf_18 (by decide) ?_
    refine n_div hx hb (by omega) (by decide) (by decide) d_M_sectorsOf_20 ?_
    refine n_add hx hb d_M_sectorsOf_21 ?_
    exact r_iS hB hr hlk (congrArg nI (by unfold nd; split <;> omega)) d_M_sectorsOf_22
  · skip
    refine lv_iconst (v := nI 1) hx hb d_M_sectorsOf_6 (by decide) ?_
    refine lv_goto (tgt := 22) hx hb d_M_sectorsOf_7 (by decide) ?_
    exact r_iS hB hr hlk (congrArg nI (by unfold nd; split <;> omega)) d_M_sectorsOf_22
end
section
/-! the desk's three loops over its entries: used, many, find -/
def pf (q : Nat → Int32) : Nat → Nat → Nat → Option Nat
  | 0, _, _ => none
  | m + 1, a, i => if q a = -1 then pf q m (a + 1) i else if i = 0 then some a else pf q m (a + 1) (i - 1)
theorem pf_drop {q : Nat → Int32} {k n i : Nat} (h : k < n) (hq : q k = -1) : pf q (n - k) k i = pf q (n - (k + 1)) (k + 1) i := by
  rw [show n - k = (n - (k + 1)) + 1 by omega]
  show (if q k = -1 then _ else _) = _
  rw [if_pos hq]
theorem pf_hit {q : Nat → Int32} {k n : Nat} (h : k < n) (hq : ¬ q k = -1) : pf q (n - k) k 0 = some k := by
  rw [show n - k = (n - (k + 1)) + 1 by omega]
  show (if q k = -1 then _ else if 0 = 0 then some k else _) = _
  rw [if_neg hq, if_pos rfl]
theorem pf_next {q : Nat → Int32} {k n i : Nat} (h : k < n) (hq : ¬ q k = -1) : pf q (n - k) k (i + 1) = pf q (n - (k + 1)) (k + 1) i := by
  rw [show n - k = (n - (k + 1)) + 1 by omega]
  show (if q k = -1 then _ else if i + 1 = 0 then some k else pf q _ (k + 1) (i + 1 - 1)) = _
  rw [if_neg hq, if_neg (by omega)]
  rfl
theorem pf_end {q : Nat → Int32} {k n i : Nat} (h : n ≤ k) : pf q (n - k) k i = none := by
  rw [show n - k = 0 by omega]
  rfl
set_option maxHeartbeats 4000000 in
set_option maxRecDepth 100000 in
/-- sectors of the entries that are kept -/
theorem c_D_used (l : Launch) {D : va_G} {A : Nat → Prop} {cs : Nat → ClassId} {ad : Nat → Nat} {sz : Nat} {cu pw : Int32} {ol nx en : Nat} {rc : Int32} {B Rt Tp : Nat → Int32} {eA eS : Nat → Nat} {eN : Nat → Int32} {R : va_W} (h1 : ol ≤ nx) (h2 : nx ≤ 520) (hs : ∀ k, eS k ≤ 100) : Met l y_D_used (Cond.code y_D_used b_D_used 3 (some .int) :: gw) (rmn 2) (va_Pc [.ref (ad 0)] (St D cs A (dW cs ad sz cu pw ol nx en rc B Rt Tp eA eS eN R))) (vp_Si (fun r => r = nI (us eS ol (nx - ol)))) 0 0 (fun _ => False) := by
  refine x_start (by decide) (Nat.le_of_ble_eq_true rfl) ?_
  intro p e s m below meth c hB hr hlk hin hP hD ls hl
  have hx := hB.1
  have hb := hB.2.1
  have hown := hB.2.2.2.1
  have hts := hB.2.2.2.2.1
  have hK := hB.2.2.2.2.2.1
  have hl : lv_has ls 3 [(0, .ref (ad 0))] := hl
  have loop : ∀ (n : Nat) (k : Nat), (ol + k ≤ nx) → (nx + 1 ≤ ol + k + n) → ∀ ls : Array Slot, lv_has ls 3 [(0, .ref (ad 0)), (1, .int (nI (us eS ol k))), (2, .int (nI (ol + k)))] → W p l e (rmn 2) s m ([.ref (ad 0)] : List Value).toArray below meth c s.heap [] 0 0 (MQ below (vp_Si (fun r => r = nI (us eS ol (nx - ol)))) ([.ref (ad 0)] : List Value).toArray s 0 0 (fun _ => False)) (F0 m 7 ls []) := by
    intro n
    induction n with
    | zero => intro k hk hm; exfalso; omega
    | succ n ih =>
      intro k hk hm ls hl
      refine lv_iload_n hx hb d_D_used_7 rfl (lv_at hl 2 rfl) ?_
      refine lv_aload_n hx hb d_D_used_8 rfl (lv_at hl 0 rfl) ?_
      refine gf_D_41 (v := .int (nI nx)) hB hP 0 rfl rfl d_D_used_9 ?_
      refine n_icmp_ge hx hb (by omega) (by omega) (tgt := 33) d_D_used_12 (by decide) (fun hc12 => ?_) (fun hc12 => ?_)
      · skip
        obtain rfl : k = nx - ol := by omega
        refine lv_iload_n hx hb d_D_used_33 rfl (lv_at hl 1 rfl) ?_
        exact r_iS hB hr hlk rfl d_D_used_34
      · skip
        refine lv_iload_n hx hb d_D_used_15 rfl (lv_at hl 1 rfl) ?_
        refine lv_aload_n hx hb d_D_used_16 rfl (lv_at hl 0 rfl) ?_
        refine gf_D_30 (v := .ref (ad 5)) hB hP 0 rfl rfl d_D_used_17 ?_
        refine lv_iload_n hx hb d_D_used_20 rfl (lv_at hl 2 rfl) ?_
        refine n_aldq (f := fun j => ad (j + 6)) hx hb hK hP 5 2 rfl rfl (by omega) (by decide) d_D_used_21 ?_
        refine W.eq (g2 := F0 m 22 ls [.ref (ad ((ol + k) + 6)), .int (nI (us eS ol k))]) rfl ?_
        refine x_cSi (As := []) (rest := [.int (nI (us eS ol k))]) (n := 0) hB (c_E_need l (k := ol + k) (by omega) (by have := hs (ol + k); omega)) gi_D_44 (by decide +kernel) rfl rfl ⟨Nat.le_of_ble_eq_true rfl, Nat.le_of_ble_eq_true rfl⟩ hP hD ((ol + k) + 6) (dW_e (by omega)) rfl hl.1 rfl (Nat.le_of_ble_eq_true rfl) d_D_used_22 ⟨Nat.le_of_ble_eq_true rfl, Nat.le_of_ble_eq_true rfl⟩ (fun r hr => ?_)
        subst hr
        refine n_add hx hb d_D_used_25 ?_
        refine lv_istore_n (lv' := [(1, .int (nI ((us eS ol k) + (nd (eS (ol + k)))))), (0, .ref (ad 0)), (2, .int (nI (ol + k)))]) hx hb d_D_used_26 rfl hl (by decide) rfl (fun ls hl => ?_)
        refine n_inc (d := 1) (k := 2) (lv' := [(2, .int (nI ((ol + k) + 1))), (1, .int (nI ((us eS ol k) + (nd (eS (ol + k)))))), (0, .ref (ad 0))]) hx hb d_D_used_27 (by decide) hl rfl (by decide) rfl (fun ls hl => ?_)
        refine lv_goto (tgt := 7) hx hb d_D_used_30 (by decide) ?_
        exact ih (k + 1) (by omega) (by omega) ls (lv_sub hl [2, 1, 0] rfl)
  refine lv_iconst (v := nI 0) hx hb d_D_used_0 (by decide) ?_
  refine lv_istore_n (lv' := [(1, .int (nI 0)), (0, .ref (ad 0))]) hx hb d_D_used_1 rfl hl (by decide) rfl (fun ls hl => ?_)
  refine lv_aload_n hx hb d_D_used_2 rfl (lv_at hl 1 rfl) ?_
  refine gf_D_38 (v := .int (nI ol)) hB hP 0 rfl rfl d_D_used_3 ?_
  refine lv_istore_n (lv' := [(2, .int (nI ol)), (1, .int (nI 0)), (0, .ref (ad 0))]) hx hb d_D_used_6 rfl hl (by decide) rfl (fun ls hl => ?_)
  exact loop (nx + 1) 0 (by omega) (by omega) ls (lv_sub hl [2, 1, 0] rfl)
set_option maxHeartbeats 4000000 in
set_option maxRecDepth 100000 in
/-- records that are kept -/
theorem c_D_many (l : Launch) {D : va_G} {A : Nat → Prop} {cs : Nat → ClassId} {ad : Nat → Nat} {sz : Nat} {cu pw : Int32} {ol nx en : Nat} {rc : Int32} {B Rt Tp : Nat → Int32} {eA eS : Nat → Nat} {eN : Nat → Int32} {R : va_W} (h1 : ol ≤ nx) (h2 : nx ≤ 520) : Met l y_D_many (Cond.code y_D_many b_D_many 3 (some .int) :: gw) (rmn 0) (va_Pc [.ref (ad 0)] (St D cs A (dW cs ad sz cu pw ol nx en rc B Rt Tp eA eS eN R))) (vp_Si (fun r => r = nI (mn eN ol (nx - ol)))) 0 0 (fun _ => False) := by
  refine x_start (by decide) (Nat.le_of_ble_eq_true rfl) ?_
  intro p e s m below meth c hB hr hlk hin hP hD ls hl
  have hx := hB.1
  have hb := hB.2.1
  have hown := hB.2.2.2.1
  have hts := hB.2.2.2.2.1
  have hK := hB.2.2.2.2.2.1
  have hl : lv_has ls 3 [(0, .ref (ad 0))] := hl
  have loop : ∀ (n : Nat) (k : Nat), (ol + k ≤ nx) → (nx + 1 ≤ ol + k + n) → ∀ ls : Array Slot, lv_has ls 3 [(0, .ref (ad 0)), (1, .int (nI (mn eN ol k))), (2, .int (nI (ol + k)))] → W p l e (rmn 0) s m ([.ref (ad 0)] : List Value).toArray below meth c s.heap [] 0 0 (MQ below (vp_Si (fun r => r = nI (mn eN ol (nx - ol)))) ([.ref (ad 0)] : List Value).toArray s 0 0 (fun _ => False)) (F0 m 7 ls []) := by
    intro n
    induction n with
    | zero => intro k hk hm; exfalso; omega
    | succ n ih =>
      intro k hk hm ls hl
      refine lv_iload_n hx hb d_D_many_7 rfl (lv_at hl 2 rfl) ?_
      refine lv_aload_n hx hb d_D_many_8 rfl (lv_at hl 0 rfl) ?_
      refine gf_D_41 (v := .int (nI nx)) hB hP 0 rfl rfl d_D_many_9 ?_
      refine n_icmp_ge hx hb (by omega) (by omega) (tgt := 42) d_D_many_12 (by decide) (fun hc12 => ?_) (fun hc12 => ?_)
      · skip
        obtain rfl : k = nx - ol := by omega
        refine lv_iload_n hx hb d_D_many_42 rfl (lv_at hl 1 rfl) ?_
        exact r_iS hB hr hlk rfl d_D_many_43
      · skip
        refine lv_iload_n hx hb d_D_many_15 rfl (lv_at hl 1 rfl) ?_
        refine lv_aload_n hx hb d_D_many_16 rfl (lv_at hl 0 rfl) ?_
        refine gf_D_30 (v := .ref (ad 5)) hB hP 0 rfl rfl d_D_many_17 ?_
        refine lv_iload_n hx hb d_D_many_20 rfl (lv_at hl 2 rfl) ?_
        refine n_aldq (f := fun j => ad (j + 6)) hx hb hK hP 5 2 rfl rfl (by omega) (by decide) d_D_many_21 ?_
        refine W.eq (g2 := F0 m 22 ls [.ref (ad ((ol + k) + 6)), .int (nI (mn eN ol k))]) rfl ?_
        refine gf_D_48 (v := .int (eN (ol + k))) hB hP ((ol + k) + 6) (dW_e (by omega)) rfl d_D_many_22 ?_
        refine lv_iconst (v := (-1)) hx hb d_D_many_25 (by decide) ?_
        refine lv_icmp_eq (tgt := 33) hx hb d_D_many_26 (by decide) (fun hc26 => ?_) (fun hc26 => ?_)
        · skip
          refine lv_iconst (v := nI 0) hx hb d_D_many_33 (by decide) ?_
          refine n_add hx hb d_D_many_34 ?_
          refine tp_i (y := nI (mn eN ol (k + 1))) (congrArg nI (by show _ = mn eN ol k + (if eN (ol + k) = -1 then 0 else 1); first | rw [if_pos hc26] | rw [if_neg hc26])) ?_
          refine lv_istore_n (lv' := [(1, .int (nI (mn eN ol (k + 1)))), (0, .ref (ad 0)), (2, .int (nI (ol + k)))]) hx hb d_D_many_35 rfl hl (by decide) rfl (fun ls hl => ?_)
          refine n_inc (d := 1) (k := 2) (lv' := [(2, .int (nI ((ol + k) + 1))), (1, .int (nI (mn eN ol (k + 1)))), (0, .ref (ad 0))]) hx hb d_D_many_36 (by decide) hl rfl (by decide) rfl (fun ls hl => ?_)
          refine lv_goto (tgt := 7) hx hb d_D_many_39 (by decide) ?_
          exact ih (k + 1) (by omega) (by omega) ls (lv_sub hl [2, 1, 0] rfl)
        · skip
          refine lv_iconst (v := nI 1) hx hb d_D_many_29 (by decide) ?_
          refine lv_goto (tgt := 34) hx hb d_D_many_30 (by decide) ?_
          refine n_add hx hb d_D_many_34 ?_
          refine tp_i (y := nI (mn eN ol (k + 1))) (congrArg nI (by show _ = mn eN ol k + (if eN (ol + k) = -1 then 0 else 1); first | rw [if_pos hc26] | rw [if_neg hc26])) ?_
          refine lv_istore_n (lv' := [(1, .int (nI (mn eN ol (k + 1)))), (0, .ref (ad 0)), (2, .int (nI (ol + k)))]) hx hb d_D_many_35 rfl hl (by decide) rfl (fun ls hl => ?_)
          refine n_inc (d := 1) (k := 2) (lv' := [(2, .int (nI ((ol + k) + 1))), (1, .int (nI (mn eN ol (k + 1)))), (0, .ref (ad 0))]) hx hb d_D_many_36 (by decide) hl rfl (by decide) rfl (fun ls hl => ?_)
          refine lv_goto (tgt := 7) hx hb d_D_many_39 (by decide) ?_
          exact ih (k + 1) (by omega) (by omega) ls (lv_sub hl [2, 1, 0] rfl)
  refine lv_iconst (v := nI 0) hx hb d_D_many_0 (by decide) ?_
  refine lv_istore_n (lv' := [(1, .int (nI 0)), (0, .ref (ad 0))]) hx hb d_D_many_1 rfl hl (by decide) rfl (fun ls hl => ?_)
  refine lv_aload_n hx hb d_D_many_2 rfl (lv_at hl 1 rfl) ?_
  refine gf_D_38 (v := .int (nI ol)) hB hP 0 rfl rfl d_D_many_3 ?_
  refine lv_istore_n (lv' := [(2, .int (nI ol)), (1, .int (nI 0)), (0, .ref (ad 0))]) hx hb d_D_many_6 rfl hl (by decide) rfl (fun ls hl => ?_)
  exact loop (nx + 1) 0 (by omega) (by omega) ls (lv_sub hl [2, 1, 0] rfl)
set_option maxHeartbeats 4000000 in
set_option maxRecDepth 100000 in
/-- no power, or a negative place: none -/
theorem c_D_findN (l : Launch) {D : va_G} {A : Nat → Prop} {cs : Nat → ClassId} {ad : Nat → Nat} {sz : Nat} {cu pw : Int32} {ol nx en : Nat} {rc : Int32} {B Rt Tp : Nat → Int32} {eA eS : Nat → Nat} {eN : Nat → Int32} {R : va_W} {x : Int32} (h1 : ol ≤ nx) (h2 : nx ≤ 520) (h : pw = 0 ∨ x < 0) : Met l y_D_find (Cond.code y_D_find b_D_find 4 (some (.object "JournalDesk$Entry")) :: gw) (rmn 0) (va_Pc [.ref (ad 0), .int x] (St D cs A (dW cs ad sz cu pw ol nx en rc B Rt Tp eA eS eN R))) (va_Sq (fun r => r = none)) 0 0 (fun _ => False) := by
  refine x_start (by decide) (Nat.le_of_ble_eq_true rfl) ?_
  intro p e s m below meth c hB hr hlk hin hP hD ls hl
  have hx := hB.1
  have hb := hB.2.1
  have hown := hB.2.2.2.1
  have hts := hB.2.2.2.2.1
  have hK := hB.2.2.2.2.2.1
  have hl : lv_has ls 4 [(0, .ref (ad 0)), (1, .int x)] := hl
  refine lv_iload_n hx hb d_D_find_0 rfl (lv_at hl 1 rfl) ?_
  refine lv_istore_n (lv' := [(2, .int x), (0, .ref (ad 0)), (1, .int x)]) hx hb d_D_find_1 rfl hl (by decide) rfl (fun ls hl => ?_)
  refine lv_aload_n hx hb d_D_find_2 rfl (lv_at hl 1 rfl) ?_
  refine gf_D_38 (v := .int (nI ol)) hB hP 0 rfl rfl d_D_find_3 ?_
  refine lv_istore_n (lv' := [(3, .int (nI ol)), (2, .int x), (0, .ref (ad 0)), (1, .int x)]) hx hb d_D_find_6 rfl hl (by decide) rfl (fun ls hl => ?_)
  refine lv_iload_n hx hb d_D_find_7 rfl (lv_at hl 0 rfl) ?_
  refine lv_aload_n hx hb d_D_find_8 rfl (lv_at hl 2 rfl) ?_
  refine gf_D_41 (v := .int (nI nx)) hB hP 0 rfl rfl d_D_find_9 ?_
  refine n_icmp_ge hx hb (by omega) (by omega) (tgt := 62) d_D_find_12 (by decide) (fun hc12 => ?_) (fun hc12 => ?_)
  · skip
    refine lv_null hx hb d_D_find_62 ?_
    exact r_qS none rfl hB hr hlk rfl d_D_find_63
  · skip
    refine lv_aload_n hx hb d_D_find_15 rfl (lv_at hl 2 rfl) ?_
    refine gf_D_24 (v := .int pw) hB hP 0 rfl rfl d_D_find_16 ?_
    refine lv_if_eq (tgt := 62) hx hb d_D_find_19 (by decide) (fun hc19 => ?_) (fun hc19 => ?_)
    · skip
      refine lv_null hx hb d_D_find_62 ?_
      exact r_qS none rfl hB hr hlk rfl d_D_find_63
    · skip
      refine lv_iload_n hx hb d_D_find_22 rfl (lv_at hl 3 rfl) ?_
      refine lv_if_lt (tgt := 62) hx hb d_D_find_23 (by decide) (fun hc23 => ?_) (fun hc23 => ((absurd (h.resolve_left hc19) hc23)))
      refine lv_null hx hb d_D_find_62 ?_
      exact r_qS none rfl hB hr hlk rfl d_D_find_63
set_option maxHeartbeats 4000000 in
set_option maxRecDepth 100000 in
/-- the entry of the x-th record -/
theorem c_D_find (l : Launch) {D : va_G} {A : Nat → Prop} {cs : Nat → ClassId} {ad : Nat → Nat} {sz : Nat} {cu pw : Int32} {ol nx en : Nat} {rc : Int32} {B Rt Tp : Nat → Int32} {eA eS : Nat → Nat} {eN : Nat → Int32} {R : va_W} {x : Nat} (h1 : ol ≤ nx) (h2 : nx ≤ 520) (h : ¬ pw = 0) (hx1 : x < 2 ^ 31) : Met l y_D_find (Cond.code y_D_find b_D_find 4 (some (.object "JournalDesk$Entry")) :: gw) (rmn 0) (va_Pc [.ref (ad 0), .int (nI x)] (St D cs A (dW cs ad sz cu pw ol nx en rc B Rt Tp eA eS eN R))) (va_Sq (fun r => r = (pf eN (nx - ol) ol x).map (fun k => ad (k + 6)))) 0 0 (fun _ => False) := by
  refine x_start (by decide) (Nat.le_of_ble_eq_true rfl) ?_
  intro p e s m below meth c hB hr hlk hin hP hD ls hl
  have hx := hB.1
  have hb := hB.2.1
  have hown := hB.2.2.2.1
  have hts := hB.2.2.2.2.1
  have hK := hB.2.2.2.2.2.1
  have hl : lv_has ls 4 [(0, .ref (ad 0)), (1, .int (nI x))] := hl
  have loop : ∀ (n : Nat) (k : Nat) (i : Nat), (ol ≤ k) → (k ≤ nx) → (i < 2 ^ 31) → (pf eN (nx - k) k i = pf eN (nx - ol) ol x) → (nx + 1 ≤ k + n) → ∀ ls : Array Slot, lv_has ls 4 [(0, .ref (ad 0)), (1, .int (nI x)), (2, .int (nI i)), (3, .int (nI k))] → W p l e (rmn 0) s m ([.ref (ad 0), .int (nI x)] : List Value).toArray below meth c s.heap [] 0 0 (MQ below (va_Sq (fun r => r = (pf eN (nx - ol) ol x).map (fun k => ad (k + 6)))) ([.ref (ad 0), .int (nI x)] : List Value).toArray s 0 0 (fun _ => False)) (F0 m 7 ls []) := by
    intro n
    induction n with
    | zero => intro k i ha hk hi hres hm; exfalso; omega
    | succ n ih =>
      intro k i ha hk hi hres hm ls hl
      refine lv_iload_n hx hb d_D_find_7 rfl (lv_at hl 3 rfl) ?_
      refine lv_aload_n hx hb d_D_find_8 rfl (lv_at hl 0 rfl) ?_
      refine gf_D_41 (v := .int (nI nx)) hB hP 0 rfl rfl d_D_find_9 ?_
      refine n_icmp_ge hx hb (by omega) (by omega) (tgt := 62) d_D_find_12 (by decide) (fun hc12 => ?_) (fun hc12 => ?_)
      · skip
        refine lv_null hx hb d_D_find_62 ?_
        exact r_qS none rfl hB hr hlk (by rw [← hres, pf_end hc12]; rfl) d_D_find_63
      · skip
        refine lv_aload_n hx hb d_D_find_15 rfl (lv_at hl 0 rfl) ?_
        refine gf_D_24 (v := .int pw) hB hP 0 rfl rfl d_D_find_16 ?_
        refine lv_if_eq (tgt := 62) hx hb d_D_find_19 (by decide) (fun hc19 => (absurd hc19 h)) (fun hc19 => ?_)
        refine lv_iload_n hx hb d_D_find_22 rfl (lv_at hl 1 rfl) ?_
        refine n_if_lt hx hb (by omega) (tgt := 62) d_D_find_23 (by decide) ?_
        refine lv_aload_n hx hb d_D_find_26 rfl (lv_at hl 0 rfl) ?_
        refine gf_D_30 (v := .ref (ad 5)) hB hP 0 rfl rfl d_D_find_27 ?_
        refine lv_iload_n hx hb d_D_find_30 rfl (lv_at hl 3 rfl) ?_
        refine n_aldq (f := fun j => ad (j + 6)) hx hb hK hP 5 2 rfl rfl (by omega) (by decide) d_D_find_31 ?_
        refine W.eq (g2 := F0 m 32 ls [.ref (ad (k + 6))]) rfl ?_
        refine gf_D_48 (v := .int (eN k)) hB hP (k + 6) (dW_e (by omega)) rfl d_D_find_32 ?_
        refine lv_iconst (v := (-1)) hx hb d_D_find_35 (by decide) ?_
        refine lv_icmp_ne (tgt := 42) hx hb d_D_find_36 (by decide) (fun hc36 => ?_) (fun hc36 => ?_)
        · skip
          refine lv_iload_n hx hb d_D_find_42 rfl (lv_at hl 2 rfl) ?_
          refine n_if_ne hx hb (by omega) (tgt := 53) d_D_find_43 (by decide) (fun hc43 => ?_) (fun hc43 => ?_)
          · skip
            obtain ⟨i, rfl⟩ : ∃ j, i = j + 1 := ⟨i - 1, by omega⟩
            have hres := (pf_next (i := i) hc12 hc36).symm.trans hres
            refine n_dec (k := 2) (lv' := [(2, .int (nI i)), (0, .ref (ad 0)), (1, .int (nI x)), (3, .int (nI k))]) hx hb d_D_find_53 hl rfl (by decide) rfl (fun ls hl => ?_)
            refine n_inc (d := 1) (k := 3) (lv' := [(3, .int (nI (k + 1))), (2, .int (nI i)), (0, .ref (ad 0)), (1, .int (nI x))]) hx hb d_D_find_56 (by decide) hl rfl (by decide) rfl (fun ls hl => ?_)
            refine lv_goto (tgt := 7) hx hb d_D_find_59 (by decide) ?_
            exact ih (k + 1) i (by omega) (by omega) (by omega) hres (by omega) ls (lv_sub hl [2, 3, 1, 0] rfl)
          · skip
            refine lv_aload_n hx hb d_D_find_46 rfl (lv_at hl 0 rfl) ?_
            refine gf_D_30 (v := .ref (ad 5)) hB hP 0 rfl rfl d_D_find_47 ?_
            refine lv_iload_n hx hb d_D_find_50 rfl (lv_at hl 3 rfl) ?_
            refine n_aldq (f := fun j => ad (j + 6)) hx hb hK hP 5 2 rfl rfl (by omega) (by decide) d_D_find_51 ?_
            refine W.eq (g2 := F0 m 52 ls [.ref (ad (k + 6))]) rfl ?_
            exact r_qS (some (ad (k + 6))) rfl hB hr hlk (by rw [← hres, hc43, pf_hit hc12 hc36]; rfl) d_D_find_52
        · skip
          have hres := (pf_drop (i := i) hc12 hc36).symm.trans hres
          refine lv_goto (tgt := 56) hx hb d_D_find_39 (by decide) ?_
          refine n_inc (d := 1) (k := 3) (lv' := [(3, .int (nI (k + 1))), (0, .ref (ad 0)), (1, .int (nI x)), (2, .int (nI i))]) hx hb d_D_find_56 (by decide) hl rfl (by decide) rfl (fun ls hl => ?_)
          refine lv_goto (tgt := 7) hx hb d_D_find_59 (by decide) ?_
          exact ih (k + 1) i (by omega) (by omega) (by omega) hres (by omega) ls (lv_sub hl [1, 2, 3, 0] rfl)
  refine lv_iload_n hx hb d_D_find_0 rfl (lv_at hl 1 rfl) ?_
  refine lv_istore_n (lv' := [(2, .int (nI x)), (0, .ref (ad 0)), (1, .int (nI x))]) hx hb d_D_find_1 rfl hl (by decide) rfl (fun ls hl => ?_)
  refine lv_aload_n hx hb d_D_find_2 rfl (lv_at hl 1 rfl) ?_
  refine gf_D_38 (v := .int (nI ol)) hB hP 0 rfl rfl d_D_find_3 ?_
  refine lv_istore_n (lv' := [(3, .int (nI ol)), (2, .int (nI x)), (0, .ref (ad 0)), (1, .int (nI x))]) hx hb d_D_find_6 rfl hl (by decide) rfl (fun ls hl => ?_)
  exact loop (nx + 1) ol x (by omega) h1 hx1 rfl (by omega) ls (lv_sub hl [2, 3, 1, 0] rfl)
end
section
/-! the desk's questions: hasRoom, sizeAt, needAt, whole, record, bytes, count; and put, cut -/
def sza (B : Nat → Int32) (i : Nat) : Nat := if r1 B i 3 = 255 then 0 else (r1 B i 3).toNatClampNeg
theorem sza_lt (B : Nat → Int32) (i : Nat) : sza B i < 256 := by
  obtain ⟨n, h1, h2⟩ := r1_lt B i 3
  unfold sza
  split
  · omega
  · rw [h2, nI_clamp (by omega)]; exact h1
theorem sza_t {B : Nat → Int32} {i : Nat} (h : r1 B i 3 = 255) : sza B i = 0 := by unfold sza; rw [if_pos h]
theorem sza_f {B : Nat → Int32} {i : Nat} (h : ¬ r1 B i 3 = 255) : nI (sza B i) = r1 B i 3 := by
  obtain ⟨n, h1, h2⟩ := r1_lt B i 3
  unfold sza
  rw [if_neg h, h2, nI_clamp (by omega)]
/-- sector t is the k-th of entry x -/
def okS (B Rt : Nat → Int32) (x : Int32) (t k : Nat) : Prop := ¬ Rt t = 0 ∧ r2 B t 0 = x ∧ r1 B t 2 = nI k
/-- entry x stands whole from sector i on -/
def wa (B Rt : Nat → Int32) (x : Int32) (i : Nat) : Prop := ¬ Rt i = 0 ∧ r2 B i 0 = x ∧ r1 B i 2 = 0 ∧ ∀ k, k < nd (sza B i) → okS B Rt x ((i + k) % 40) k
def fdx (pw : Int32) (eN : Nat → Int32) (ol nx : Nat) (x : Int32) : Option Nat := if pw = 0 ∨ x < 0 then none else pf eN (nx - ol) ol x.toNatClampNeg
theorem pf_lt {q : Nat → Int32} : ∀ (m a i k : Nat), pf q m a i = some k → a ≤ k ∧ k < a + m
  | 0, _, _, _, h => by cases h
  | m + 1, a, i, k, h => by
    have h : (if q a = -1 then pf q m (a + 1) i else if i = 0 then some a else pf q m (a + 1) (i - 1)) = some k := h
    split at h
    · have := pf_lt m (a + 1) i k h
      omega
    · split at h
      · cases h
        omega
      · have := pf_lt m (a + 1) (i - 1) k h
        omega
theorem fdx_lt {pw : Int32} {eN : Nat → Int32} {ol nx k : Nat} {x : Int32} (h1 : ol ≤ nx) (h : fdx pw eN ol nx x = some k) : ol ≤ k ∧ k < nx := by
  unfold fdx at h
  split at h
  · cases h
  · have := pf_lt _ _ _ _ h
    omega
/-- eight bytes into a long -/
def bvl (f : Nat → Int32) : Nat → Int64
  | 0 => 0
  | b + 1 => (bvl f b) <<< ((nI 8).toInt64 &&& 63) ||| (f b).toInt64
theorem bvl_congr {f g : Nat → Int32} : ∀ n, (∀ b, b < n → f b = g b) → bvl f n = bvl g n
  | 0, _ => rfl
  | n + 1, h => by
    show (bvl f n) <<< ((nI 8).toInt64 &&& 63) ||| (f n).toInt64 = (bvl g n) <<< ((nI 8).toInt64 &&& 63) ||| (g n).toInt64
    rw [bvl_congr n (fun b hb => h b (by omega)), h n (by omega)]
/-- the k-th byte of a long, as an int -/
def pb (v : Int64) (k : Nat) : Int32 := (v >>> ((nI (8 * k)).toInt64 &&& 63)).toInt32
theorem dec_eq (x : Int32) : x + Int32.ofInt (-1) = x - 1 := by
  rw [Int32.sub_eq_add_neg]
  rfl
set_option maxHeartbeats 4000000 in
set_option maxRecDepth 100000 in
/-- whether n more sectors fit -/
theorem c_D_hasRoom (l : Launch) {D : va_G} {A : Nat → Prop} {cs : Nat → ClassId} {ad : Nat → Nat} {sz : Nat} {cu pw : Int32} {ol nx en : Nat} {rc : Int32} {B Rt Tp : Nat → Int32} {eA eS : Nat → Nat} {eN : Nat → Int32} {R : va_W} {n : Nat} (h1 : ol ≤ nx) (h2 : nx ≤ 520) (hs : ∀ k, eS k ≤ 100) (hn : n ≤ 100) : Met l y_D_hasRoom (Cond.code y_D_hasRoom b_D_hasRoom 2 (some .boolean) :: gw) (rmn 3) (va_Pc [.ref (ad 0), .int (nI n)] (St D cs A (dW cs ad sz cu pw ol nx en rc B Rt Tp eA eS eN R))) (vp_Si (fun r => r = nI (if ¬ pw = 0 ∧ us eS ol (nx - ol) + n ≤ 40 then 1 else 0))) 0 0 (fun _ => False) := by
  have hU := us_le eS ol (nx - ol) (fun j _ => hs _)
  refine x_start (by decide) (Nat.le_of_ble_eq_true rfl) ?_
  intro p e s m below meth c hB hr hlk hin hP hD ls hl
  have hx := hB.1
  have hb := hB.2.1
  have hown := hB.2.2.2.1
  have hts := hB.2.2.2.2.1
  have hK := hB.2.2.2.2.2.1
  have hl : lv_has ls 2 [(0, .ref (ad 0)), (1, .int (nI n))] := hl
  refine lv_aload_n hx hb d_D_hasRoom_0 rfl (lv_at hl 0 rfl) ?_
  refine gf_D_24 (v := .int pw) hB hP 0 rfl rfl d_D_hasRoom_1 ?_
  refine lv_if_eq (tgt := 22) hx hb d_D_hasRoom_4 (by decide) (fun hc4 => ?_) (fun hc4 => ?_)
  · skip
    refine lv_iconst (v := nI 0) hx hb d_D_hasRoom_22 (by decide) ?_
    exact r_zS hB hr hlk (by decide) (by rw [if_neg (fun q => q.1 hc4)]) d_D_hasRoom_23
  · skip
    refine lv_aload_n hx hb d_D_hasRoom_7 rfl (lv_at hl 0 rfl) ?_
    refine x_cSi (As := []) (rest := []) (n := 0) hB (c_D_used l h1 h2 hs) gi_D_82 (by decide +kernel) rfl rfl ⟨Nat.le_of_ble_eq_true rfl, Nat.le_of_ble_eq_true rfl⟩ hP hD 0 rfl rfl hl.1 rfl (Nat.le_of_ble_eq_true rfl) d_D_hasRoom_8 ⟨Nat.le_of_ble_eq_true rfl, Nat.le_of_ble_eq_true rfl⟩ (fun r hr => ?_)
    subst hr
    refine lv_iload_n hx hb d_D_hasRoom_11 rfl (lv_at hl 1 rfl) ?_
    refine n_add hx hb d_D_hasRoom_12 ?_
    refine lv_bipush (v := nI 40) hx hb d_D_hasRoom_13 (by decide) ?_
    refine n_icmp_gt hx hb (by omega) (by omega) (tgt := 22) d_D_hasRoom_15 (by decide) (fun hc15 => ?_) (fun hc15 => ?_)
    · skip
      refine lv_iconst (v := nI 0) hx hb d_D_hasRoom_22 (by decide) ?_
      exact r_zS hB hr hlk (by decide) (by rw [if_neg (fun q => absurd q.2 (Nat.not_le.mpr hc15))]) d_D_hasRoom_23
    · skip
      refine lv_iconst (v := nI 1) hx hb d_D_hasRoom_18 (by decide) ?_
      refine lv_goto (tgt := 23) hx hb d_D_hasRoom_19 (by decide) ?_
      exact r_zS hB hr hlk (by decide) (by rw [if_pos ⟨hc4, hc15⟩]) d_D_hasRoom_23
set_option maxHeartbeats 4000000 in
set_option maxRecDepth 100000 in
/-- the size that sector i tells -/
theorem c_D_sizeAt (l : Launch) {D : va_G} {A : Nat → Prop} {cs : Nat → ClassId} {ad : Nat → Nat} {sz : Nat} {cu pw : Int32} {ol nx en : Nat} {rc : Int32} {B Rt Tp : Nat → Int32} {eA eS : Nat → Nat} {eN : Nat → Int32} {R : va_W} {i : Nat} (hi : i < 40) : Met l y_D_sizeAt (Cond.code y_D_sizeAt b_D_sizeAt 2 (some .int) :: gw) (rmn 1) (va_Pc [.ref (ad 0), .int (nI i)] (St D cs A (dW cs ad sz cu pw ol nx en rc B Rt Tp eA eS eN R))) (vp_Si (fun r => r = nI (sza B i))) 0 0 (fun _ => False) := by
  refine x_start (by decide) (Nat.le_of_ble_eq_true rfl) ?_
  intro p e s m below meth c hB hr hlk hin hP hD ls hl
  have hx := hB.1
  have hb := hB.2.1
  have hown := hB.2.2.2.1
  have hts := hB.2.2.2.2.1
  have hK := hB.2.2.2.2.2.1
  have hl : lv_has ls 2 [(0, .ref (ad 0)), (1, .int (nI i))] := hl
  refine lv_aload_n hx hb d_D_sizeAt_0 rfl (lv_at hl 0 rfl) ?_
  refine gf_D_10 (v := .ref (ad 1)) hB hP 0 rfl rfl d_D_sizeAt_1 ?_
  refine lv_iload_n hx hb d_D_sizeAt_4 rfl (lv_at hl 1 rfl) ?_
  refine lv_iconst (v := nI 3) hx hb d_D_sizeAt_5 (by decide) ?_
  refine x_cSi (As := [.int (nI i), .int (nI 3)]) (rest := []) (n := 2) hB (c_K_readOne l (i := i) (j := 3) (by omega)) gi_D_99 (by decide +kernel) rfl rfl ⟨Nat.le_of_ble_eq_true rfl, Nat.le_of_ble_eq_true rfl⟩ hP hD 1 rfl rfl hl.1 rfl (Nat.le_of_ble_eq_true rfl) d_D_sizeAt_6 ⟨Nat.le_of_ble_eq_true rfl, Nat.le_of_ble_eq_true rfl⟩ (fun r hr => ?_)
  subst hr
  refine lv_sipush (v := 255) hx hb d_D_sizeAt_9 (by decide) ?_
  refine lv_icmp_ne (tgt := 19) hx hb d_D_sizeAt_12 (by decide) (fun hc12 => ?_) (fun hc12 => ?_)
  · skip
    refine lv_aload_n hx hb d_D_sizeAt_19 rfl (lv_at hl 0 rfl) ?_
    refine gf_D_10 (v := .ref (ad 1)) hB hP 0 rfl rfl d_D_sizeAt_20 ?_
    refine lv_iload_n hx hb d_D_sizeAt_23 rfl (lv_at hl 1 rfl) ?_
    refine lv_iconst (v := nI 3) hx hb d_D_sizeAt_24 (by decide) ?_
    refine x_cSi (As := [.int (nI i), .int (nI 3)]) (rest := []) (n := 2) hB (c_K_readOne l (i := i) (j := 3) (by omega)) gi_D_99 (by decide +kernel) rfl rfl ⟨Nat.le_of_ble_eq_true rfl, Nat.le_of_ble_eq_true rfl⟩ hP hD 1 rfl rfl hl.1 rfl (Nat.le_of_ble_eq_true rfl) d_D_sizeAt_25 ⟨Nat.le_of_ble_eq_true rfl, Nat.le_of_ble_eq_true rfl⟩ (fun r hr => ?_)
    subst hr
    exact r_iS hB hr hlk (by first | rw [sza_t hc12] | exact (sza_f hc12).symm) d_D_sizeAt_28
  · skip
    refine lv_iconst (v := nI 0) hx hb d_D_sizeAt_15 (by decide) ?_
    refine lv_goto (tgt := 28) hx hb d_D_sizeAt_16 (by decide) ?_
    exact r_iS hB hr hlk (by first | rw [sza_t hc12] | exact (sza_f hc12).symm) d_D_sizeAt_28
set_option maxHeartbeats 4000000 in
set_option maxRecDepth 100000 in
/-- the sectors that sector i tells -/
theorem c_D_needAt (l : Launch) {D : va_G} {A : Nat → Prop} {cs : Nat → ClassId} {ad : Nat → Nat} {sz : Nat} {cu pw : Int32} {ol nx en : Nat} {rc : Int32} {B Rt Tp : Nat → Int32} {eA eS : Nat → Nat} {eN : Nat → Int32} {R : va_W} {i : Nat} (hi : i < 40) : Met l y_D_needAt (Cond.code y_D_needAt b_D_needAt 2 (some .int) :: gw) (rmn 2) (va_Pc [.ref (ad 0), .int (nI i)] (St D cs A (dW cs ad sz cu pw ol nx en rc B Rt Tp eA eS eN R))) (vp_Si (fun r => r = nI (nd (sza B i)))) 0 0 (fun _ => False) := by
  have hz := sza_lt B i
  refine x_start (by decide) (Nat.le_of_ble_eq_true rfl) ?_
  intro p e s m below meth c hB hr hlk hin hP hD ls hl
  have hx := hB.1
  have hb := hB.2.1
  have hown := hB.2.2.2.1
  have hts := hB.2.2.2.2.1
  have hK := hB.2.2.2.2.2.1
  have hl : lv_has ls 2 [(0, .ref (ad 0)), (1, .int (nI i))] := hl
  refine lv_iconst (v := nI 1) hx hb d_D_needAt_0 (by decide) ?_
  refine lv_aload_n hx hb d_D_needAt_1 rfl (lv_at hl 0 rfl) ?_
  refine lv_iload_n hx hb d_D_needAt_2 rfl (lv_at hl 1 rfl) ?_
  refine x_cSi (As := [.int (nI i)]) (rest := [.int (nI 1)]) (n := 1) hB (c_D_sizeAt l hi) gi_D_102 (by decide +kernel) rfl rfl ⟨Nat.le_of_ble_eq_true rfl, Nat.le_of_ble_eq_true rfl⟩ hP hD 0 rfl rfl hl.1 rfl (Nat.le_of_ble_eq_true rfl) d_D_needAt_3 ⟨Nat.le_of_ble_eq_true rfl, Nat.le_of_ble_eq_true rfl⟩ (fun r hr => ?_)
  subst hr
  refine lv_bipush (v := nI 12) hx hb d_D_needAt_6 (by decide) ?_
  refine n_add hx hb d_D_needAt_8 ?_
  refine lv_iconst (v := nI 1) hx hb d_D_needAt_9 (by decide) ?_
  refine n_sub hx hb (by omega) d_D_needAt_10 ?_
  refine lv_bipush (v := nI 12) hx hb d_D_needAt_11 (by decide) ?_
  refine n_div hx hb (by omega) (by decide) (by decide) d_D_needAt_13 ?_
  refine x_max hB mm_D_max hl.1 (Nat.le_of_ble_eq_true rfl) (Nat.le_of_ble_eq_true rfl) (Nat.le_of_ble_eq_true rfl) (Nat.le_of_ble_eq_true rfl) (by omega) (by omega) d_D_needAt_14 ?_
  refine tp_i (y := nI (nd (sza B i))) (congrArg nI (nd_max _)) ?_
  exact r_iS hB hr hlk rfl d_D_needAt_17
set_option maxHeartbeats 4000000 in
set_option maxRecDepth 100000 in
/-- where entry x stands whole -/
theorem c_D_whole (l : Launch) {D : va_G} {A : Nat → Prop} {cs : Nat → ClassId} {ad : Nat → Nat} {sz : Nat} {cu pw : Int32} {ol nx en : Nat} {rc : Int32} {B Rt Tp : Nat → Int32} {eA eS : Nat → Nat} {eN : Nat → Int32} {R : va_W} {x : Int32}  : Met l y_D_whole (Cond.code y_D_whole b_D_whole 7 (some .int) :: gw) (rmn 3) (va_Pc [.ref (ad 0), .int x] (St D cs A (dW cs ad sz cu pw ol nx en rc B Rt Tp eA eS eN R))) (vp_Si (fun r => (∃ i, i < 40 ∧ r = nI i ∧ wa B Rt x i) ∨ (r = -1 ∧ ∀ i, i < 40 → ¬ wa B Rt x i))) 0 0 (fun _ => False) := by
  refine x_start (by decide) (Nat.le_of_ble_eq_true rfl) ?_
  intro p e s m below meth c hB hr hlk hin hP hD ls hl
  have hx := hB.1
  have hb := hB.2.1
  have hown := hB.2.2.2.1
  have hts := hB.2.2.2.2.1
  have hK := hB.2.2.2.2.2.1
  have hl : lv_has ls 7 [(0, .ref (ad 0)), (1, .int x)] := hl
  have loop : ∀ (n : Nat) (i : Nat), (i ≤ 40) → (∀ j, j < i → ¬ wa B Rt x j) → (40 + 1 ≤ i + n) → ∀ ls : Array Slot, lv_has ls 7 [(0, .ref (ad 0)), (1, .int x), (2, .int (nI i))] → W p l e (rmn 3) s m ([.ref (ad 0), .int x] : List Value).toArray below meth c s.heap [] 0 0 (MQ below (vp_Si (fun r => (∃ i, i < 40 ∧ r = nI i ∧ wa B Rt x i) ∨ (r = -1 ∧ ∀ i, i < 40 → ¬ wa B Rt x i))) ([.ref (ad 0), .int x] : List Value).toArray s 0 0 (fun _ => False)) (F0 m 2 ls []) := by
    intro n
    induction n with
    | zero => intro i hi0 hpre hm; exfalso; omega
    | succ n ih =>
      intro i hi0 hpre hm ls hl
      refine lv_iload_n hx hb d_D_whole_2 rfl (lv_at hl 2 rfl) ?_
      refine lv_bipush (v := nI 40) hx hb d_D_whole_3 (by decide) ?_
      refine n_icmp_ge hx hb (by omega) (by omega) (tgt := 148) d_D_whole_5 (by decide) (fun hc5 => ?_) (fun hc5 => ?_)
      · skip
        refine lv_iconst (v := (-1)) hx hb d_D_whole_148 (by decide) ?_
        exact r_iS hB hr hlk (Or.inr ⟨rfl, fun j hj => hpre j (by omega)⟩) d_D_whole_149
      · skip
        have hi : i < 40 := hc5
        refine lv_aload_n hx hb d_D_whole_8 rfl (lv_at hl 0 rfl) ?_
        refine gf_D_10 (v := .ref (ad 1)) hB hP 0 rfl rfl d_D_whole_9 ?_
        refine gf_D_61 (v := .ref (ad 3)) hB hP 1 rfl rfl d_D_whole_12 ?_
        refine lv_iload_n hx hb d_D_whole_15 rfl (lv_at hl 2 rfl) ?_
        refine n_zald hx hb hK hP 3 1 rfl rfl (by omega) (by decide) d_D_whole_16 ?_
        refine lv_if_eq (tgt := 142) hx hb d_D_whole_17 (by decide) (fun hc17 => ?_) (fun hc17 => ?_)
        · skip
          have hnot : ¬ wa B Rt x i := fun q => q.1 hc17
          refine n_inc (d := 1) (k := 2) (lv' := [(2, .int (nI (i + 1))), (0, .ref (ad 0)), (1, .int x)]) hx hb d_D_whole_142 (by decide) hl rfl (by decide) rfl (fun ls hl => ?_)
          refine lv_goto (tgt := 2) hx hb d_D_whole_145 (by decide) ?_
          exact ih (i + 1) (by omega) (lt_s hpre hnot) (by omega) ls (lv_sub hl [1, 2, 0] rfl)
        · skip
          refine lv_aload_n hx hb d_D_whole_20 rfl (lv_at hl 0 rfl) ?_
          refine gf_D_10 (v := .ref (ad 1)) hB hP 0 rfl rfl d_D_whole_21 ?_
          refine lv_iload_n hx hb d_D_whole_24 rfl (lv_at hl 2 rfl) ?_
          refine lv_iconst (v := nI 0) hx hb d_D_whole_25 (by decide) ?_
          refine x_cSi (As := [.int (nI i), .int (nI 0)]) (rest := []) (n := 2) hB (c_K_readTwo l (i := i) (j := 0) (by omega)) gi_D_106 (by decide +kernel) rfl rfl ⟨Nat.le_of_ble_eq_true rfl, Nat.le_of_ble_eq_true rfl⟩ hP hD 1 rfl rfl hl.1 rfl (Nat.le_of_ble_eq_true rfl) d_D_whole_26 ⟨Nat.le_of_ble_eq_true rfl, Nat.le_of_ble_eq_true rfl⟩ (fun r hr => ?_)
          subst hr
          refine lv_iload_n hx hb d_D_whole_29 rfl (lv_at hl 1 rfl) ?_
          refine lv_icmp_ne (tgt := 142) hx hb d_D_whole_30 (by decide) (fun hc30 => ?_) (fun hc30 => ?_)
          · skip
            have hnot : ¬ wa B Rt x i := fun q => hc30 q.2.1
            refine n_inc (d := 1) (k := 2) (lv' := [(2, .int (nI (i + 1))), (0, .ref (ad 0)), (1, .int x)]) hx hb d_D_whole_142 (by decide) hl rfl (by decide) rfl (fun ls hl => ?_)
            refine lv_goto (tgt := 2) hx hb d_D_whole_145 (by decide) ?_
            exact ih (i + 1) (by omega) (lt_s hpre hnot) (by omega) ls (lv_sub hl [1, 2, 0] rfl)
          · skip
            refine lv_aload_n hx hb d_D_whole_33 rfl (lv_at hl 0 rfl) ?_
            refine gf_D_10 (v := .ref (ad 1)) hB hP 0 rfl rfl d_D_whole_34 ?_
            refine lv_iload_n hx hb d_D_whole_37 rfl (lv_at hl 2 rfl) ?_
            refine lv_iconst (v := nI 2) hx hb d_D_whole_38 (by decide) ?_
            refine x_cSi (As := [.int (nI i), .int (nI 2)]) (rest := []) (n := 2) hB (c_K_readOne l (i := i) (j := 2) (by omega)) gi_D_99 (by decide +kernel) rfl rfl ⟨Nat.le_of_ble_eq_true rfl, Nat.le_of_ble_eq_true rfl⟩ hP hD 1 rfl rfl hl.1 rfl (Nat.le_of_ble_eq_true rfl) d_D_whole_39 ⟨Nat.le_of_ble_eq_true rfl, Nat.le_of_ble_eq_true rfl⟩ (fun r hr => ?_)
            subst hr
            refine lv_if_eq (tgt := 48) hx hb d_D_whole_42 (by decide) (fun hc42 => ?_) (fun hc42 => ?_)
            · skip
              refine lv_aload_n hx hb d_D_whole_48 rfl (lv_at hl 0 rfl) ?_
              refine lv_iload_n hx hb d_D_whole_49 rfl (lv_at hl 2 rfl) ?_
              refine x_cSi (As := [.int (nI i)]) (rest := []) (n := 1) hB (c_D_needAt l hi) gi_D_109 (by decide +kernel) rfl rfl ⟨Nat.le_of_ble_eq_true rfl, Nat.le_of_ble_eq_true rfl⟩ hP hD 0 rfl rfl hl.1 rfl (Nat.le_of_ble_eq_true rfl) d_D_whole_50 ⟨Nat.le_of_ble_eq_true rfl, Nat.le_of_ble_eq_true rfl⟩ (fun r hr => ?_)
              subst hr
              refine lv_istore_n (lv' := [(3, .int (nI (nd (sza B i)))), (0, .ref (ad 0)), (1, .int x), (2, .int (nI i))]) hx hb d_D_whole_53 rfl hl (by decide) rfl (fun ls hl => ?_)
              refine lv_iconst (v := nI 1) hx hb d_D_whole_54 (by decide) ?_
              refine lv_istore (lv' := [(4, .int (nI 1)), (3, .int (nI (nd (sza B i)))), (0, .ref (ad 0)), (1, .int x), (2, .int (nI i))]) hx hb d_D_whole_55 hl (by decide) rfl (fun ls hl => ?_)
              refine lv_iconst (v := nI 0) hx hb d_D_whole_57 (by decide) ?_
              refine lv_istore (lv' := [(5, .int (nI 0)), (4, .int (nI 1)), (3, .int (nI (nd (sza B i)))), (0, .ref (ad 0)), (1, .int x), (2, .int (nI i))]) hx hb d_D_whole_58 hl (by decide) rfl (fun ls hl => ?_)
              have hz := nd_le2 (Nat.le_of_lt_succ (sza_lt B i))
              have inner : ∀ (n2 : Nat) (b : Nat) (k : Nat), (k ≤ nd (sza B i)) → ((b = 1 ∧ ∀ j, j < k → okS B Rt x ((i + j) % 40) j) ∨ (b = 0 ∧ ∃ j, j < nd (sza B i) ∧ ¬ okS B Rt x ((i + j) % 40) j)) → (nd (sza B i) + 1 ≤ k + n2) → ∀ ls : Array Slot, lv_has ls 7 [(0, .ref (ad 0)), (1, .int x), (2, .int (nI i)), (3, .int (nI (nd (sza B i)))), (4, .int (nI b)), (5, .int (nI k))] → W p l e (rmn 3) s m ([.ref (ad 0), .int x] : List Value).toArray below meth c s.heap [] 0 0 (MQ below (vp_Si (fun r => (∃ i, i < 40 ∧ r = nI i ∧ wa B Rt x i) ∨ (r = -1 ∧ ∀ i, i < 40 → ¬ wa B Rt x i))) ([.ref (ad 0), .int x] : List Value).toArray s 0 0 (fun _ => False)) (F0 m 60 ls []) := by
                intro n2
                induction n2 with
                | zero => intro b k hk hb4 hm2; exfalso; omega
                | succ n2 ih2 =>
                  intro b k hk hb4 hm2 ls hl
                  have hbl : b ≤ 1 := by rcases hb4 with h | h <;> omega
                  refine lv_iload hx hb d_D_whole_60 (lv_at hl 5 rfl) ?_
                  refine lv_iload_n hx hb d_D_whole_62 rfl (lv_at hl 3 rfl) ?_
                  refine n_icmp_ge hx hb (by omega) (by omega) (tgt := 135) d_D_whole_63 (by decide) (fun hc63 => ?_) (fun hc63 => ?_)
                  · skip
                    refine lv_iload hx hb d_D_whole_135 (lv_at hl 4 rfl) ?_
                    refine n_if_eq hx hb (by omega) (tgt := 142) d_D_whole_137 (by decide) (fun hc137 => ?_) (fun hc137 => ?_)
                    · skip
                      have hnot : ¬ wa B Rt x i := by
                        intro q
                        obtain ⟨-, j, hj, hn⟩ := hb4.resolve_left (fun z => by omega)
                        exact hn (q.2.2.2 j hj)
                      refine n_inc (d := 1) (k := 2) (lv' := [(2, .int (nI (i + 1))), (0, .ref (ad 0)), (1, .int x), (3, .int (nI (nd (sza B i)))), (4, .int (nI b)), (5, .int (nI k))]) hx hb d_D_whole_142 (by decide) hl rfl (by decide) rfl (fun ls hl => ?_)
                      refine lv_goto (tgt := 2) hx hb d_D_whole_145 (by decide) ?_
                      exact ih (i + 1) (by omega) (lt_s hpre hnot) (by omega) ls (lv_sub hl [1, 2, 0] rfl)
                    · skip
                      have hall := (hb4.resolve_right (fun q => hc137 q.1)).2
                      have hwhole : ∀ j, j < nd (sza B i) → okS B Rt x ((i + j) % 40) j := fun j hj => hall j (by omega)
                      refine lv_iload_n hx hb d_D_whole_140 rfl (lv_at hl 2 rfl) ?_
                      exact r_iS hB hr hlk (Or.inl ⟨i, hi, rfl, hc17, hc30, hc42, hwhole⟩) d_D_whole_141
                  · skip
                    refine lv_iload hx hb d_D_whole_66 (lv_at hl 4 rfl) ?_
                    refine n_if_eq hx hb (by omega) (tgt := 135) d_D_whole_68 (by decide) (fun hc68 => ?_) (fun hc68 => ?_)
                    · skip
                      refine lv_iload hx hb d_D_whole_135 (lv_at hl 4 rfl) ?_
                      refine n_if_eq hx hb (by omega) (tgt := 142) d_D_whole_137 (by decide) (fun hc137 => ?_) (fun hc137 => ?_)
                      · skip
                        have hnot : ¬ wa B Rt x i := by
                          intro q
                          obtain ⟨-, j, hj, hn⟩ := hb4.resolve_left (fun z => by omega)
                          exact hn (q.2.2.2 j hj)
                        refine n_inc (d := 1) (k := 2) (lv' := [(2, .int (nI (i + 1))), (0, .ref (ad 0)), (1, .int x), (3, .int (nI (nd (sza B i)))), (4, .int (nI b)), (5, .int (nI k))]) hx hb d_D_whole_142 (by decide) hl rfl (by decide) rfl (fun ls hl => ?_)
                        refine lv_goto (tgt := 2) hx hb d_D_whole_145 (by decide) ?_
                        exact ih (i + 1) (by omega) (lt_s hpre hnot) (by omega) ls (lv_sub hl [1, 2, 0] rfl)
                      · skip
                        have hall := (hb4.resolve_right (fun q => hc137 q.1)).2
                        have hwhole : ∀ j, j < nd (sza B i) → okS B Rt x ((i + j) % 40) j := fun j hj => hall j (by omega)
                        refine lv_iload_n hx hb d_D_whole_140 rfl (lv_at hl 2 rfl) ?_
                        exact r_iS hB hr hlk (Or.inl ⟨i, hi, rfl, hc17, hc30, hc42, hwhole⟩) d_D_whole_141
                    · skip
                      have hall := (hb4.resolve_right (fun q => hc68 q.1)).2
                      refine lv_iload_n hx hb d_D_whole_71 rfl (lv_at hl 2 rfl) ?_
                      refine lv_iload hx hb d_D_whole_72 (lv_at hl 5 rfl) ?_
                      refine n_add hx hb d_D_whole_74 ?_
                      refine lv_bipush (v := nI 40) hx hb d_D_whole_75 (by decide) ?_
                      refine n_rem hx hb (by omega) (by decide) (by decide) d_D_whole_77 ?_
                      refine lv_istore (lv' := [(6, .int (nI ((i + k) % 40))), (0, .ref (ad 0)), (1, .int x), (2, .int (nI i)), (3, .int (nI (nd (sza B i)))), (4, .int (nI b)), (5, .int (nI k))]) hx hb d_D_whole_78 hl (by decide) rfl (fun ls hl => ?_)
                      refine lv_aload_n hx hb d_D_whole_80 rfl (lv_at hl 1 rfl) ?_
                      refine gf_D_10 (v := .ref (ad 1)) hB hP 0 rfl rfl d_D_whole_81 ?_
                      refine gf_D_61 (v := .ref (ad 3)) hB hP 1 rfl rfl d_D_whole_84 ?_
                      refine lv_iload hx hb d_D_whole_87 (lv_at hl 0 rfl) ?_
                      refine n_zald hx hb hK hP 3 1 rfl rfl (by omega) (by decide) d_D_whole_89 ?_
                      refine lv_if_eq (tgt := 126) hx hb d_D_whole_90 (by decide) (fun hc90 => ?_) (fun hc90 => ?_)
                      · skip
                        refine lv_iconst (v := nI 0) hx hb d_D_whole_126 (by decide) ?_
                        refine lv_istore (lv' := [(4, .int (nI 0)), (6, .int (nI ((i + k) % 40))), (0, .ref (ad 0)), (1, .int x), (2, .int (nI i)), (3, .int (nI (nd (sza B i)))), (5, .int (nI k))]) hx hb d_D_whole_127 hl (by decide) rfl (fun ls hl => ?_)
                        refine n_inc (d := 1) (k := 6) (lv' := [(5, .int (nI (k + 1))), (4, .int (nI 0)), (6, .int (nI ((i + k) % 40))), (0, .ref (ad 0)), (1, .int x), (2, .int (nI i)), (3, .int (nI (nd (sza B i))))]) hx hb d_D_whole_129 (by decide) hl rfl (by decide) rfl (fun ls hl => ?_)
                        refine lv_goto (tgt := 60) hx hb d_D_whole_132 (by decide) ?_
                        exact ih2 0 (k + 1) (by omega) (Or.inr ⟨rfl, k, hc63, fun q => by first | exact q.1 hc90 | exact hc104 q.2.1 | exact hc119 q.2.2⟩) (by omega) ls (lv_sub hl [3, 4, 5, 6, 1, 0] rfl)
                      · skip
                        refine lv_aload_n hx hb d_D_whole_93 rfl (lv_at hl 1 rfl) ?_
                        refine gf_D_10 (v := .ref (ad 1)) hB hP 0 rfl rfl d_D_whole_94 ?_
                        refine lv_iload hx hb d_D_whole_97 (lv_at hl 0 rfl) ?_
                        refine lv_iconst (v := nI 0) hx hb d_D_whole_99 (by decide) ?_
                        refine x_cSi (As := [.int (nI ((i + k) % 40)), .int (nI 0)]) (rest := []) (n := 2) hB (c_K_readTwo l (i := (i + k) % 40) (j := 0) (by omega)) gi_D_106 (by decide +kernel) rfl rfl ⟨Nat.le_of_ble_eq_true rfl, Nat.le_of_ble_eq_true rfl⟩ hP hD 1 rfl rfl hl.1 rfl (Nat.le_of_ble_eq_true rfl) d_D_whole_100 ⟨Nat.le_of_ble_eq_true rfl, Nat.le_of_ble_eq_true rfl⟩ (fun r hr => ?_)
                        subst hr
                        refine lv_iload_n hx hb d_D_whole_103 rfl (lv_at hl 2 rfl) ?_
                        refine lv_icmp_ne (tgt := 126) hx hb d_D_whole_104 (by decide) (fun hc104 => ?_) (fun hc104 => ?_)
                        · skip
                          refine lv_iconst (v := nI 0) hx hb d_D_whole_126 (by decide) ?_
                          refine lv_istore (lv' := [(4, .int (nI 0)), (6, .int (nI ((i + k) % 40))), (0, .ref (ad 0)), (1, .int x), (2, .int (nI i)), (3, .int (nI (nd (sza B i)))), (5, .int (nI k))]) hx hb d_D_whole_127 hl (by decide) rfl (fun ls hl => ?_)
                          refine n_inc (d := 1) (k := 6) (lv' := [(5, .int (nI (k + 1))), (4, .int (nI 0)), (6, .int (nI ((i + k) % 40))), (0, .ref (ad 0)), (1, .int x), (2, .int (nI i)), (3, .int (nI (nd (sza B i))))]) hx hb d_D_whole_129 (by decide) hl rfl (by decide) rfl (fun ls hl => ?_)
                          refine lv_goto (tgt := 60) hx hb d_D_whole_132 (by decide) ?_
                          exact ih2 0 (k + 1) (by omega) (Or.inr ⟨rfl, k, hc63, fun q => by first | exact q.1 hc90 | exact hc104 q.2.1 | exact hc119 q.2.2⟩) (by omega) ls (lv_sub hl [3, 4, 5, 6, 1, 0] rfl)
                        · skip
                          refine lv_aload_n hx hb d_D_whole_107 rfl (lv_at hl 1 rfl) ?_
                          refine gf_D_10 (v := .ref (ad 1)) hB hP 0 rfl rfl d_D_whole_108 ?_
                          refine lv_iload hx hb d_D_whole_111 (lv_at hl 0 rfl) ?_
                          refine lv_iconst (v := nI 2) hx hb d_D_whole_113 (by decide) ?_
                          refine x_cSi (As := [.int (nI ((i + k) % 40)), .int (nI 2)]) (rest := []) (n := 2) hB (c_K_readOne l (i := (i + k) % 40) (j := 2) (by omega)) gi_D_99 (by decide +kernel) rfl rfl ⟨Nat.le_of_ble_eq_true rfl, Nat.le_of_ble_eq_true rfl⟩ hP hD 1 rfl rfl hl.1 rfl (Nat.le_of_ble_eq_true rfl) d_D_whole_114 ⟨Nat.le_of_ble_eq_true rfl, Nat.le_of_ble_eq_true rfl⟩ (fun r hr => ?_)
                          subst hr
                          refine lv_iload hx hb d_D_whole_117 (lv_at hl 6 rfl) ?_
                          refine lv_icmp_ne (tgt := 126) hx hb d_D_whole_119 (by decide) (fun hc119 => ?_) (fun hc119 => ?_)
                          · skip
                            refine lv_iconst (v := nI 0) hx hb d_D_whole_126 (by decide) ?_
                            refine lv_istore (lv' := [(4, .int (nI 0)), (6, .int (nI ((i + k) % 40))), (0, .ref (ad 0)), (1, .int x), (2, .int (nI i)), (3, .int (nI (nd (sza B i)))), (5, .int (nI k))]) hx hb d_D_whole_127 hl (by decide) rfl (fun ls hl => ?_)
                            refine n_inc (d := 1) (k := 6) (lv' := [(5, .int (nI (k + 1))), (4, .int (nI 0)), (6, .int (nI ((i + k) % 40))), (0, .ref (ad 0)), (1, .int x), (2, .int (nI i)), (3, .int (nI (nd (sza B i))))]) hx hb d_D_whole_129 (by decide) hl rfl (by decide) rfl (fun ls hl => ?_)
                            refine lv_goto (tgt := 60) hx hb d_D_whole_132 (by decide) ?_
                            exact ih2 0 (k + 1) (by omega) (Or.inr ⟨rfl, k, hc63, fun q => by first | exact q.1 hc90 | exact hc104 q.2.1 | exact hc119 q.2.2⟩) (by omega) ls (lv_sub hl [3, 4, 5, 6, 1, 0] rfl)
                          · skip
                            refine lv_iconst (v := nI 1) hx hb d_D_whole_122 (by decide) ?_
                            refine lv_goto (tgt := 127) hx hb d_D_whole_123 (by decide) ?_
                            refine lv_istore (lv' := [(4, .int (nI 1)), (6, .int (nI ((i + k) % 40))), (0, .ref (ad 0)), (1, .int x), (2, .int (nI i)), (3, .int (nI (nd (sza B i)))), (5, .int (nI k))]) hx hb d_D_whole_127 hl (by decide) rfl (fun ls hl => ?_)
                            refine n_inc (d := 1) (k := 6) (lv' := [(5, .int (nI (k + 1))), (4, .int (nI 1)), (6, .int (nI ((i + k) % 40))), (0, .ref (ad 0)), (1, .int x), (2, .int (nI i)), (3, .int (nI (nd (sza B i))))]) hx hb d_D_whole_129 (by decide) hl rfl (by decide) rfl (fun ls hl => ?_)
                            refine lv_goto (tgt := 60) hx hb d_D_whole_132 (by decide) ?_
                            exact ih2 1 (k + 1) (by omega) (Or.inl ⟨rfl, lt_s hall ⟨hc90, hc104, hc119⟩⟩) (by omega) ls (lv_sub hl [3, 4, 5, 6, 1, 0] rfl)
              exact inner (nd (sza B i) + 1) 1 0 (by omega) (Or.inl ⟨rfl, lt_0⟩) (by omega) ls (lv_sub hl [3, 4, 5, 2, 1, 0] rfl)
            · skip
              have hnot : ¬ wa B Rt x i := fun q => hc42 q.2.2.1
              refine lv_goto (tgt := 142) hx hb d_D_whole_45 (by decide) ?_
              refine n_inc (d := 1) (k := 2) (lv' := [(2, .int (nI (i + 1))), (0, .ref (ad 0)), (1, .int x)]) hx hb d_D_whole_142 (by decide) hl rfl (by decide) rfl (fun ls hl => ?_)
              refine lv_goto (tgt := 2) hx hb d_D_whole_145 (by decide) ?_
              exact ih (i + 1) (by omega) (lt_s hpre hnot) (by omega) ls (lv_sub hl [1, 2, 0] rfl)
  refine lv_iconst (v := nI 0) hx hb d_D_whole_0 (by decide) ?_
  refine lv_istore_n (lv' := [(2, .int (nI 0)), (0, .ref (ad 0)), (1, .int x)]) hx hb d_D_whole_1 rfl hl (by decide) rfl (fun ls hl => ?_)
  exact loop 41 0 (by omega) lt_0 (by omega) ls (lv_sub hl [1, 2, 0] rfl)
theorem c_D_findA (l : Launch) {D : va_G} {A : Nat → Prop} {cs : Nat → ClassId} {ad : Nat → Nat} {sz : Nat} {cu pw : Int32} {ol nx en : Nat} {rc : Int32} {B Rt Tp : Nat → Int32} {eA eS : Nat → Nat} {eN : Nat → Int32} {R : va_W} {x : Int32} (h1 : ol ≤ nx) (h2 : nx ≤ 520) : Met l y_D_find (Cond.code y_D_find b_D_find 4 (some (.object "JournalDesk$Entry")) :: gw) (rmn 0) (va_Pc [.ref (ad 0), .int x] (St D cs A (dW cs ad sz cu pw ol nx en rc B Rt Tp eA eS eN R))) (va_Sq (fun r => r = (fdx pw eN ol nx x).map (fun k => ad (k + 6)))) 0 0 (fun _ => False) := by
  by_cases h : pw = 0 ∨ x < 0
  · have := c_D_findN l (D := D) (A := A) (cs := cs) (ad := ad) (sz := sz) (cu := cu) (pw := pw) (en := en) (rc := rc) (B := B) (Rt := Rt) (Tp := Tp) (eA := eA) (eS := eS) (eN := eN) (R := R) (x := x) h1 h2 h
    unfold fdx
    rw [if_pos h]
    exact this
  · obtain ⟨j, hj, rfl⟩ := nI_of (x := x) (fun q => h (Or.inr q))
    have := c_D_find l (D := D) (A := A) (cs := cs) (ad := ad) (sz := sz) (cu := cu) (pw := pw) (en := en) (rc := rc) (B := B) (Rt := Rt) (Tp := Tp) (eA := eA) (eS := eS) (eN := eN) (R := R) (x := j) h1 h2 (fun q => h (Or.inl q)) hj
    unfold fdx
    rw [if_neg h, nI_clamp hj]
    exact this
def recA (pw : Int32) (eS : Nat → Nat) (eN : Nat → Int32) (ol nx : Nat) (x y : Int32) : Int32 := match fdx pw eN ol nx x with
  | none => -1
  | some k => if y = 0 then nI (eS k) else if y = 1 then eN k else -1
theorem recA_n {pw : Int32} {eS : Nat → Nat} {eN : Nat → Int32} {ol nx : Nat} {x y : Int32} (h : fdx pw eN ol nx x = none) : recA pw eS eN ol nx x y = -1 := by unfold recA; rw [h]
theorem recA_s {pw : Int32} {eS : Nat → Nat} {eN : Nat → Int32} {ol nx k : Nat} {x y : Int32} (h : fdx pw eN ol nx x = some k) : recA pw eS eN ol nx x y = if y = 0 then nI (eS k) else if y = 1 then eN k else -1 := by unfold recA; rw [h]
set_option maxHeartbeats 4000000 in
set_option maxRecDepth 100000 in
/-- size or number of the x-th record -/
theorem c_D_record (l : Launch) {D : va_G} {A : Nat → Prop} {cs : Nat → ClassId} {ad : Nat → Nat} {sz : Nat} {cu pw : Int32} {ol nx en : Nat} {rc : Int32} {B Rt Tp : Nat → Int32} {eA eS : Nat → Nat} {eN : Nat → Int32} {R : va_W} {x y : Int32} (h1 : ol ≤ nx) (h2 : nx ≤ 520) : Met l y_D_record (Cond.code y_D_record b_D_record 4 (some .int) :: gw) (rmn 1) (va_Pc [.ref (ad 0), .int x, .int y] (St D cs A (dW cs ad sz cu pw ol nx en rc B Rt Tp eA eS eN R))) (vp_Si (fun r => r = recA pw eS eN ol nx x y)) 0 0 (fun _ => False) := by
  refine x_start (by decide) (Nat.le_of_ble_eq_true rfl) ?_
  intro p e s m below meth c hB hr hlk hin hP hD ls hl
  have hx := hB.1
  have hb := hB.2.1
  have hown := hB.2.2.2.1
  have hts := hB.2.2.2.2.1
  have hK := hB.2.2.2.2.2.1
  have hl : lv_has ls 4 [(0, .ref (ad 0)), (1, .int x), (2, .int y)] := hl
  have hr0 := hr
  refine lv_aload_n hx hb d_D_record_0 rfl (lv_at hl 0 rfl) ?_
  refine lv_iload_n hx hb d_D_record_1 rfl (lv_at hl 1 rfl) ?_
  refine x_cSq (As := [.int x]) (rest := []) (n := 1) hB (c_D_findA l h1 h2) gi_D_115 (by decide +kernel) rfl rfl ⟨Nat.le_of_ble_eq_true rfl, Nat.le_of_ble_eq_true rfl⟩ hP hD 0 rfl rfl hl.1 rfl (Nat.le_of_ble_eq_true rfl) d_D_record_2 ⟨Nat.le_of_ble_eq_true rfl, Nat.le_of_ble_eq_true rfl⟩ (fun r hr => ?_)
  cases hf : fdx pw eN ol nx x with
  | none =>
    rw [hf] at hr; subst hr
    refine W.eq (g2 := F0 m 5 ls [.null]) rfl ?_
    refine lv_astore_nN (lv' := [(3, .null), (0, .ref (ad 0)), (1, .int x), (2, .int y)]) hx hb d_D_record_5 rfl hl (by decide) rfl (fun ls hl => ?_)
    refine lv_aload_nN hx hb d_D_record_6 rfl (lv_at hl 0 rfl) ?_
    refine lv_ifnullN (tgt := 19) hx hb d_D_record_7 (by decide) ?_
    refine lv_iconst (v := (-1)) hx hb d_D_record_19 (by decide) ?_
    refine lv_goto (tgt := 38) hx hb d_D_record_20 (by decide) ?_
    exact r_iS hB hr0 hlk ((recA_n hf).symm) d_D_record_38
  | some k =>
    rw [hf] at hr; subst hr
    have hkk := fdx_lt h1 hf
    refine W.eq (g2 := F0 m 5 ls [.ref (ad (k + 6))]) rfl ?_
    refine lv_astore_n (lv' := [(3, .ref (ad (k + 6))), (0, .ref (ad 0)), (1, .int x), (2, .int y)]) hx hb d_D_record_5 rfl hl (by decide) rfl (fun ls hl => ?_)
    refine lv_aload_n hx hb d_D_record_6 rfl (lv_at hl 0 rfl) ?_
    refine lv_ifnull hx hb d_D_record_7 ?_
    refine lv_iload_n hx hb d_D_record_10 rfl (lv_at hl 3 rfl) ?_
    refine lv_if_eq (tgt := 23) hx hb d_D_record_11 (by decide) (fun hc11 => ?_) (fun hc11 => ?_)
    · skip
      refine lv_iload_n hx hb d_D_record_23 rfl (lv_at hl 3 rfl) ?_
      refine lv_if_ne (tgt := 34) hx hb d_D_record_24 (by decide) (fun hc24 => (absurd hc11 hc24)) (fun hc24 => ?_)
      refine lv_aload_n hx hb d_D_record_27 rfl (lv_at hl 0 rfl) ?_
      refine gf_D_71 (v := .int (nI (eS k))) hB hP (k + 6) (dW_e (by omega)) rfl d_D_record_28 ?_
      refine lv_goto (tgt := 38) hx hb d_D_record_31 (by decide) ?_
      exact r_iS hB hr0 hlk (by rw [recA_s hf, if_pos hc11]) d_D_record_38
    · skip
      refine lv_iload_n hx hb d_D_record_14 rfl (lv_at hl 3 rfl) ?_
      refine lv_iconst (v := 1) hx hb d_D_record_15 (by decide) ?_
      refine lv_icmp_eq (tgt := 23) hx hb d_D_record_16 (by decide) (fun hc16 => ?_) (fun hc16 => ?_)
      · skip
        refine lv_iload_n hx hb d_D_record_23 rfl (lv_at hl 3 rfl) ?_
        refine lv_if_ne (tgt := 34) hx hb d_D_record_24 (by decide) (fun hc24 => ?_) (fun hc24 => (absurd hc24 hc11))
        refine lv_aload_n hx hb d_D_record_34 rfl (lv_at hl 0 rfl) ?_
        refine gf_D_48 (v := .int (eN k)) hB hP (k + 6) (dW_e (by omega)) rfl d_D_record_35 ?_
        exact r_iS hB hr0 hlk (by rw [recA_s hf, if_neg hc11, if_pos hc16]) d_D_record_38
      · skip
        refine lv_iconst (v := (-1)) hx hb d_D_record_19 (by decide) ?_
        refine lv_goto (tgt := 38) hx hb d_D_record_20 (by decide) ?_
        exact r_iS hB hr0 hlk (by rw [recA_s hf, if_neg hc11, if_neg hc16]) d_D_record_38
/-- the b-th byte from place y on of entry k, or 0 behind its end -/
def dby (B : Nat → Int32) (eA eS : Nat → Nat) (k y b : Nat) : Int32 := if y + b < eS k then r1 B ((eA k + (y + b) / 12) % 40) (8 + (y + b) % 12) else 0
def bytA (pw : Int32) (B : Nat → Int32) (eA eS : Nat → Nat) (eN : Nat → Int32) (ol nx : Nat) (x y : Int32) : Int64 := match fdx pw eN ol nx x with
  | none => -1
  | some k => if y < 0 then -1 else bvl (dby B eA eS k y.toNatClampNeg) 8
theorem bytA_n {pw : Int32} {B : Nat → Int32} {eA eS : Nat → Nat} {eN : Nat → Int32} {ol nx : Nat} {x y : Int32} (h : fdx pw eN ol nx x = none) : bytA pw B eA eS eN ol nx x y = -1 := by unfold bytA; rw [h]
theorem bytA_s {pw : Int32} {B : Nat → Int32} {eA eS : Nat → Nat} {eN : Nat → Int32} {ol nx k : Nat} {x y : Int32} (h : fdx pw eN ol nx x = some k) : bytA pw B eA eS eN ol nx x y = if y < 0 then -1 else bvl (dby B eA eS k y.toNatClampNeg) 8 := by unfold bytA; rw [h]
set_option maxHeartbeats 4000000 in
set_option maxRecDepth 100000 in
/-- eight bytes of the x-th record -/
theorem c_D_bytes (l : Launch) {D : va_G} {A : Nat → Prop} {cs : Nat → ClassId} {ad : Nat → Nat} {sz : Nat} {cu pw : Int32} {ol nx en : Nat} {rc : Int32} {B Rt Tp : Nat → Int32} {eA eS : Nat → Nat} {eN : Nat → Int32} {R : va_W} {x y : Int32} (h1 : ol ≤ nx) (h2 : nx ≤ 520) (hs : ∀ k, eS k ≤ 100) (ha : ∀ k, eA k < 40) : Met l y_D_bytes (Cond.code y_D_bytes b_D_bytes 9 (some .long) :: gw) (rmn 1) (va_Pc [.ref (ad 0), .int x, .int y] (St D cs A (dW cs ad sz cu pw ol nx en rc B Rt Tp eA eS eN R))) (vp_Sl (fun r => r = bytA pw B eA eS eN ol nx x y)) 0 0 (fun _ => False) := by
  refine x_start (by decide) (Nat.le_of_ble_eq_true rfl) ?_
  intro p e s m below meth c hB hr hlk hin hP hD ls hl
  have hx := hB.1
  have hb := hB.2.1
  have hown := hB.2.2.2.1
  have hts := hB.2.2.2.2.1
  have hK := hB.2.2.2.2.2.1
  have hl : lv_has ls 9 [(0, .ref (ad 0)), (1, .int x), (2, .int y)] := hl
  have hr0 := hr
  refine lv_aload_n hx hb d_D_bytes_0 rfl (lv_at hl 0 rfl) ?_
  refine lv_iload_n hx hb d_D_bytes_1 rfl (lv_at hl 1 rfl) ?_
  refine x_cSq (As := [.int x]) (rest := []) (n := 1) hB (c_D_findA l h1 h2) gi_D_115 (by decide +kernel) rfl rfl ⟨Nat.le_of_ble_eq_true rfl, Nat.le_of_ble_eq_true rfl⟩ hP hD 0 rfl rfl hl.1 rfl (Nat.le_of_ble_eq_true rfl) d_D_bytes_2 ⟨Nat.le_of_ble_eq_true rfl, Nat.le_of_ble_eq_true rfl⟩ (fun r hr => ?_)
  cases hf : fdx pw eN ol nx x with
  | none =>
    rw [hf] at hr; subst hr
    refine W.eq (g2 := F0 m 5 ls [.null]) rfl ?_
    refine lv_astore_nN (lv' := [(3, .null), (0, .ref (ad 0)), (1, .int x), (2, .int y)]) hx hb d_D_bytes_5 rfl hl (by decide) rfl (fun ls hl => ?_)
    refine lv_aload_nN hx hb d_D_bytes_6 rfl (lv_at hl 0 rfl) ?_
    refine lv_ifnullN (tgt := 14) hx hb d_D_bytes_7 (by decide) ?_
    refine lv_ldc2 (v := (-1)) hx hb hown (hts _ cl_D_119) d_D_bytes_14 ?_
    exact r_lS hB hr0 hlk ((bytA_n hf).symm) d_D_bytes_17
  | some k =>
    rw [hf] at hr; subst hr
    have hkk := fdx_lt h1 hf
    refine W.eq (g2 := F0 m 5 ls [.ref (ad (k + 6))]) rfl ?_
    refine lv_astore_n (lv' := [(3, .ref (ad (k + 6))), (0, .ref (ad 0)), (1, .int x), (2, .int y)]) hx hb d_D_bytes_5 rfl hl (by decide) rfl (fun ls hl => ?_)
    refine lv_aload_n hx hb d_D_bytes_6 rfl (lv_at hl 0 rfl) ?_
    refine lv_ifnull hx hb d_D_bytes_7 ?_
    refine lv_iload_n hx hb d_D_bytes_10 rfl (lv_at hl 3 rfl) ?_
    refine lv_if_ge (tgt := 18) hx hb d_D_bytes_11 (by decide) (fun hc11 => ?_) (fun hc11 => ?_)
    · skip
      obtain ⟨j, hj, hy⟩ := nI_of (x := y) (Int32.not_lt.mpr hc11)
      rw [hy] at hl
      refine lv_lconst (v := 0) hx hb d_D_bytes_18 (by decide) ?_
      refine lv_lstore (lv' := [(4, .long 0), (3, .ref (ad (k + 6))), (0, .ref (ad 0)), (1, .int x), (2, .int (nI j))]) hx hb d_D_bytes_19 hl (by decide) rfl (fun ls hl => ?_)
      refine lv_iconst (v := nI 0) hx hb d_D_bytes_21 (by decide) ?_
      refine lv_istore (lv' := [(6, .int (nI 0)), (4, .long 0), (3, .ref (ad (k + 6))), (0, .ref (ad 0)), (1, .int x), (2, .int (nI j))]) hx hb d_D_bytes_22 hl (by decide) rfl (fun ls hl => ?_)
      have hsk := hs k
      have hak := ha k
      have loop : ∀ (n : Nat) (b : Nat), (b ≤ 8) → (8 + 1 ≤ b + n) → ∀ ls : Array Slot, lv_has ls 9 [(0, .ref (ad 0)), (2, .int (nI j)), (3, .ref (ad (k + 6))), (4, .long (bvl (dby B eA eS k j) b)), (6, .int (nI b))] → W p l e (rmn 1) s m ([.ref (ad 0), .int x, .int y] : List Value).toArray below meth c s.heap [] 0 0 (MQ below (vp_Sl (fun r => r = bytA pw B eA eS eN ol nx x y)) ([.ref (ad 0), .int x, .int y] : List Value).toArray s 0 0 (fun _ => False)) (F0 m 24 ls []) := by
        intro n
        induction n with
        | zero => intro b hb8 hm; exfalso; omega
        | succ n ih =>
          intro b hb8 hm ls hl
          refine lv_iload hx hb d_D_bytes_24 (lv_at hl 4 rfl) ?_
          refine lv_bipush (v := nI 8) hx hb d_D_bytes_26 (by decide) ?_
          refine n_icmp_ge hx hb (by omega) (by omega) (tgt := 113) d_D_bytes_28 (by decide) (fun hc28 => ?_) (fun hc28 => ?_)
          · skip
            refine lv_lload hx hb d_D_bytes_113 (lv_at hl 3 rfl) ?_
            exact r_lS hB hr0 hlk (by rw [bytA_s hf, hy, if_neg (nI_pos hj), nI_clamp hj, show b = 8 by omega]) d_D_bytes_115
          · skip
            refine lv_iload_n hx hb d_D_bytes_31 rfl (lv_at hl 1 rfl) ?_
            refine lv_iload hx hb d_D_bytes_32 (lv_at hl 4 rfl) ?_
            refine n_add hx hb d_D_bytes_34 ?_
            refine lv_istore (lv' := [(7, .int (nI (j + b))), (0, .ref (ad 0)), (2, .int (nI j)), (3, .ref (ad (k + 6))), (4, .long (bvl (dby B eA eS k j) b)), (6, .int (nI b))]) hx hb d_D_bytes_35 hl (by decide) rfl (fun ls hl => ?_)
            refine lv_iload_n hx hb d_D_bytes_37 rfl (lv_at hl 2 rfl) ?_
            refine lv_aload_n hx hb d_D_bytes_38 rfl (lv_at hl 3 rfl) ?_
            refine gf_D_71 (v := .int (nI (eS k))) hB hP (k + 6) (dW_e (by omega)) rfl d_D_bytes_39 ?_
            refine n_icmp_ge hx hb (by omega) (by omega) (tgt := 58) d_D_bytes_42 (by decide) (fun hc42 => ?_) (fun hc42 => ?_)
            · skip
              have hd : dby B eA eS k j b = 0 := by unfold dby; rw [if_neg (by omega)]
              refine lv_iconst (v := nI 0) hx hb d_D_bytes_58 (by decide) ?_
              refine lv_istore (lv' := [(8, .int (nI 0)), (7, .int (nI (j + b))), (0, .ref (ad 0)), (2, .int (nI j)), (3, .ref (ad (k + 6))), (4, .long (bvl (dby B eA eS k j) b)), (6, .int (nI b))]) hx hb d_D_bytes_59 hl (by decide) rfl (fun ls hl => ?_)
              refine lv_lload hx hb d_D_bytes_61 (lv_at hl 5 rfl) ?_
              refine lv_bipush (v := nI 8) hx hb d_D_bytes_63 (by decide) ?_
              refine lv_lshl (v := (bvl (dby B eA eS k j) b) <<< ((nI 8).toInt64 &&& 63)) hx hb d_D_bytes_65 rfl ?_
              refine lv_iload hx hb d_D_bytes_66 (lv_at hl 0 rfl) ?_
              refine n_if_eq hx hb (by omega) (tgt := 102) d_D_bytes_68 (by decide) (fun _ => ?_) (fun h => absurd h (by decide))
              refine lv_iconst (v := nI 0) hx hb d_D_bytes_102 (by decide) ?_
              refine lv_i2l (v := (nI 0).toInt64) hx hb d_D_bytes_103 rfl ?_
              refine lv_lor hx hb d_D_bytes_104 ?_
              refine tp_l (y := (bvl (dby B eA eS k j) (b + 1))) (by show _ = (bvl (dby B eA eS k j) b) <<< ((nI 8).toInt64 &&& 63) ||| (dby B eA eS k j b).toInt64; rw [hd] <;> rfl) ?_
              refine lv_lstore (lv' := [(4, .long (bvl (dby B eA eS k j) (b + 1))), (8, .int (nI 0)), (7, .int (nI (j + b))), (0, .ref (ad 0)), (2, .int (nI j)), (3, .ref (ad (k + 6))), (6, .int (nI b))]) hx hb d_D_bytes_105 hl (by decide) rfl (fun ls hl => ?_)
              refine n_inc (d := 1) (k := 6) (lv' := [(6, .int (nI (b + 1))), (4, .long (bvl (dby B eA eS k j) (b + 1))), (8, .int (nI 0)), (7, .int (nI (j + b))), (0, .ref (ad 0)), (2, .int (nI j)), (3, .ref (ad (k + 6)))]) hx hb d_D_bytes_107 (by decide) hl rfl (by decide) rfl (fun ls hl => ?_)
              refine lv_goto (tgt := 24) hx hb d_D_bytes_110 (by decide) ?_
              exact ih (b + 1) (by omega) (by omega) ls (lv_sub hl [4, 5, 6, 1, 0] rfl)
            · skip
              refine lv_iload hx hb d_D_bytes_45 (lv_at hl 0 rfl) ?_
              refine lv_aload_n hx hb d_D_bytes_47 rfl (lv_at hl 3 rfl) ?_
              refine gf_D_71 (v := .int (nI (eS k))) hB hP (k + 6) (dW_e (by omega)) rfl d_D_bytes_48 ?_
              refine n_icmp_ge hx hb (by omega) (by omega) (tgt := 58) d_D_bytes_51 (by decide) (fun hc51 => ?_) (fun hc51 => ?_)
              · skip
                have hd : dby B eA eS k j b = 0 := by unfold dby; rw [if_neg (by omega)]
                refine lv_iconst (v := nI 0) hx hb d_D_bytes_58 (by decide) ?_
                refine lv_istore (lv' := [(8, .int (nI 0)), (7, .int (nI (j + b))), (0, .ref (ad 0)), (2, .int (nI j)), (3, .ref (ad (k + 6))), (4, .long (bvl (dby B eA eS k j) b)), (6, .int (nI b))]) hx hb d_D_bytes_59 hl (by decide) rfl (fun ls hl => ?_)
                refine lv_lload hx hb d_D_bytes_61 (lv_at hl 5 rfl) ?_
                refine lv_bipush (v := nI 8) hx hb d_D_bytes_63 (by decide) ?_
                refine lv_lshl (v := (bvl (dby B eA eS k j) b) <<< ((nI 8).toInt64 &&& 63)) hx hb d_D_bytes_65 rfl ?_
                refine lv_iload hx hb d_D_bytes_66 (lv_at hl 0 rfl) ?_
                refine n_if_eq hx hb (by omega) (tgt := 102) d_D_bytes_68 (by decide) (fun _ => ?_) (fun h => absurd h (by decide))
                refine lv_iconst (v := nI 0) hx hb d_D_bytes_102 (by decide) ?_
                refine lv_i2l (v := (nI 0).toInt64) hx hb d_D_bytes_103 rfl ?_
                refine lv_lor hx hb d_D_bytes_104 ?_
                refine tp_l (y := (bvl (dby B eA eS k j) (b + 1))) (by show _ = (bvl (dby B eA eS k j) b) <<< ((nI 8).toInt64 &&& 63) ||| (dby B eA eS k j b).toInt64; rw [hd] <;> rfl) ?_
                refine lv_lstore (lv' := [(4, .long (bvl (dby B eA eS k j) (b + 1))), (8, .int (nI 0)), (7, .int (nI (j + b))), (0, .ref (ad 0)), (2, .int (nI j)), (3, .ref (ad (k + 6))), (6, .int (nI b))]) hx hb d_D_bytes_105 hl (by decide) rfl (fun ls hl => ?_)
                refine n_inc (d := 1) (k := 6) (lv' := [(6, .int (nI (b + 1))), (4, .long (bvl (dby B eA eS k j) (b + 1))), (8, .int (nI 0)), (7, .int (nI (j + b))), (0, .ref (ad 0)), (2, .int (nI j)), (3, .ref (ad (k + 6)))]) hx hb d_D_bytes_107 (by decide) hl rfl (by decide) rfl (fun ls hl => ?_)
                refine lv_goto (tgt := 24) hx hb d_D_bytes_110 (by decide) ?_
                exact ih (b + 1) (by omega) (by omega) ls (lv_sub hl [4, 5, 6, 1, 0] rfl)
              · skip
                have hd : dby B eA eS k j b = r1 B ((eA k + (j + b) / 12) % 40) (8 + (j + b) % 12) := by unfold dby; rw [if_pos (by omega)]
                refine lv_iconst (v := nI 1) hx hb d_D_bytes_54 (by decide) ?_
                refine lv_goto (tgt := 59) hx hb d_D_bytes_55 (by decide) ?_
                refine lv_istore (lv' := [(8, .int (nI 1)), (7, .int (nI (j + b))), (0, .ref (ad 0)), (2, .int (nI j)), (3, .ref (ad (k + 6))), (4, .long (bvl (dby B eA eS k j) b)), (6, .int (nI b))]) hx hb d_D_bytes_59 hl (by decide) rfl (fun ls hl => ?_)
                refine lv_lload hx hb d_D_bytes_61 (lv_at hl 5 rfl) ?_
                refine lv_bipush (v := nI 8) hx hb d_D_bytes_63 (by decide) ?_
                refine lv_lshl (v := (bvl (dby B eA eS k j) b) <<< ((nI 8).toInt64 &&& 63)) hx hb d_D_bytes_65 rfl ?_
                refine lv_iload hx hb d_D_bytes_66 (lv_at hl 0 rfl) ?_
                refine n_if_eq hx hb (by omega) (tgt := 102) d_D_bytes_68 (by decide) (fun h => absurd h (by decide)) (fun _ => ?_)
                refine lv_aload_n hx hb d_D_bytes_71 rfl (lv_at hl 2 rfl) ?_
                refine gf_D_10 (v := .ref (ad 1)) hB hP 0 rfl rfl d_D_bytes_72 ?_
                refine lv_aload_n hx hb d_D_bytes_75 rfl (lv_at hl 4 rfl) ?_
                refine gf_D_68 (v := .int (nI (eA k))) hB hP (k + 6) (dW_e (by omega)) rfl d_D_bytes_76 ?_
                refine lv_iload hx hb d_D_bytes_79 (lv_at hl 1 rfl) ?_
                refine lv_bipush (v := nI 12) hx hb d_D_bytes_81 (by decide) ?_
                refine n_div hx hb (by omega) (by decide) (by decide) d_D_bytes_83 ?_
                refine n_add hx hb d_D_bytes_84 ?_
                refine lv_bipush (v := nI 40) hx hb d_D_bytes_85 (by decide) ?_
                refine n_rem hx hb (by omega) (by decide) (by decide) d_D_bytes_87 ?_
                refine lv_bipush (v := nI 8) hx hb d_D_bytes_88 (by decide) ?_
                refine lv_iload hx hb d_D_bytes_90 (lv_at hl 1 rfl) ?_
                refine lv_bipush (v := nI 12) hx hb d_D_bytes_92 (by decide) ?_
                refine n_rem hx hb (by omega) (by decide) (by decide) d_D_bytes_94 ?_
                refine n_add hx hb d_D_bytes_95 ?_
                refine x_cSi (As := [.int (nI (((eA k) + ((j + b) / 12)) % 40)), .int (nI (8 + ((j + b) % 12)))]) (rest := [.long ((bvl (dby B eA eS k j) b) <<< ((nI 8).toInt64 &&& 63))]) (n := 2) hB (c_K_readOne l (i := (eA k + (j + b) / 12) % 40) (j := 8 + (j + b) % 12) (by omega)) gi_D_99 (by decide +kernel) rfl rfl ⟨Nat.le_of_ble_eq_true rfl, Nat.le_of_ble_eq_true rfl⟩ hP hD 1 rfl rfl hl.1 rfl (Nat.le_of_ble_eq_true rfl) d_D_bytes_96 ⟨Nat.le_of_ble_eq_true rfl, Nat.le_of_ble_eq_true rfl⟩ (fun r hr => ?_)
                subst hr
                refine lv_goto (tgt := 103) hx hb d_D_bytes_99 (by decide) ?_
                refine lv_i2l (v := (r1 B ((eA k + (j + b) / 12) % 40) (8 + (j + b) % 12)).toInt64) hx hb d_D_bytes_103 rfl ?_
                refine lv_lor hx hb d_D_bytes_104 ?_
                refine tp_l (y := (bvl (dby B eA eS k j) (b + 1))) (by show _ = (bvl (dby B eA eS k j) b) <<< ((nI 8).toInt64 &&& 63) ||| (dby B eA eS k j b).toInt64; rw [hd] <;> rfl) ?_
                refine lv_lstore (lv' := [(4, .long (bvl (dby B eA eS k j) (b + 1))), (8, .int (nI 1)), (7, .int (nI (j + b))), (0, .ref (ad 0)), (2, .int (nI j)), (3, .ref (ad (k + 6))), (6, .int (nI b))]) hx hb d_D_bytes_105 hl (by decide) rfl (fun ls hl => ?_)
                refine n_inc (d := 1) (k := 6) (lv' := [(6, .int (nI (b + 1))), (4, .long (bvl (dby B eA eS k j) (b + 1))), (8, .int (nI 1)), (7, .int (nI (j + b))), (0, .ref (ad 0)), (2, .int (nI j)), (3, .ref (ad (k + 6)))]) hx hb d_D_bytes_107 (by decide) hl rfl (by decide) rfl (fun ls hl => ?_)
                refine lv_goto (tgt := 24) hx hb d_D_bytes_110 (by decide) ?_
                exact ih (b + 1) (by omega) (by omega) ls (lv_sub hl [4, 5, 6, 1, 0] rfl)
      exact loop 9 0 (by omega) (by omega) ls (lv_sub hl [3, 5, 2, 1, 0] rfl)
    · skip
      refine lv_ldc2 (v := (-1)) hx hb hown (hts _ cl_D_119) d_D_bytes_14 ?_
      exact r_lS hB hr0 hlk (by rw [bytA_s hf, if_pos (Int32.not_le.mp hc11)]) d_D_bytes_17
end
section
/-! count, put, cut of the desk -/
def cntV (x a0 a1 a2 a3 a4 : Int32) : Int32 := if x = 0 then a0 else if x = 1 then a1 else if x = 2 then a2 else if x = 3 then a3 else if x = 4 then a4 else -1
section CNT
variable {x a0 a1 a2 a3 a4 : Int32}
theorem cnt_0 (h : x = 0) : cntV x a0 a1 a2 a3 a4 = a0 := by subst h; rfl
theorem cnt_1 (h : x = 1) : cntV x a0 a1 a2 a3 a4 = a1 := by subst h; rfl
theorem cnt_2 (h : x = 2) : cntV x a0 a1 a2 a3 a4 = a2 := by subst h; rfl
theorem cnt_3 (h : x = 3) : cntV x a0 a1 a2 a3 a4 = a3 := by subst h; rfl
theorem cnt_4 (h : x = 4) : cntV x a0 a1 a2 a3 a4 = a4 := by subst h; rfl
theorem cnt_d (h0 : ¬ x = 0) (h1 : ¬ x = 1) (h2 : ¬ x = 2) (h3 : ¬ x = 3) (h4 : ¬ x = 4) : cntV x a0 a1 a2 a3 a4 = -1 := by
  unfold cntV
  rw [if_neg h0, if_neg h1, if_neg h2, if_neg h3, if_neg h4]
end CNT
set_option maxHeartbeats 4000000 in
set_option maxRecDepth 100000 in
/-- the five counts -/
theorem c_D_count (l : Launch) {D : va_G} {A : Nat → Prop} {cs : Nat → ClassId} {ad : Nat → Nat} {sz : Nat} {cu pw : Int32} {ol nx en : Nat} {rc : Int32} {B Rt Tp : Nat → Int32} {eA eS : Nat → Nat} {eN : Nat → Int32} {R : va_W} {x : Int32} (h1 : ol ≤ nx) (h2 : nx ≤ 520) (hs : ∀ k, eS k ≤ 100) : Met l y_D_count (Cond.code y_D_count b_D_count 2 (some .int) :: gw) (rmn 3) (va_Pc [.ref (ad 0), .int x] (St D cs A (dW cs ad sz cu pw ol nx en rc B Rt Tp eA eS eN R))) (vp_Si (fun r => r = cntV x (nI sz) (if pw = 0 then nI 0 else nI (mn eN ol (nx - ol))) (if pw = 0 then nI 0 else nI (us eS ol (nx - ol))) (nI nx) (if pw = 0 then nI 0 else nI 1))) 0 0 (fun _ => False) := by
  refine x_start (by decide) (Nat.le_of_ble_eq_true rfl) ?_
  intro p e s m below meth c hB hr hlk hin hP hD ls hl
  have hx := hB.1
  have hb := hB.2.1
  have hown := hB.2.2.2.1
  have hts := hB.2.2.2.2.1
  have hK := hB.2.2.2.2.2.1
  have hl : lv_has ls 2 [(0, .ref (ad 0)), (1, .int x)] := hl
  have hr0 := hr
  refine lv_iload_n hx hb d_D_count_0 rfl (lv_at hl 1 rfl) ?_
  by_cases hq0 : x = 0
  · skip
    refine lv_tableIn (off := 35) (tgt := 36) hx hb d_D_count_1 (by rw [hq0]; decide) (by rw [hq0]; decide) (by rw [hq0]; rfl) (by decide) ?_
    refine lv_aload_n hx hb d_D_count_36 rfl (lv_at hl 0 rfl) ?_
    refine gf_D_35 (v := .int (nI sz)) hB hP 0 rfl rfl d_D_count_37 ?_
    exact r_iS hB hr0 hlk (cnt_0 hq0).symm d_D_count_40
  · skip
    by_cases hq1 : x = 1
    · skip
      refine lv_tableIn (off := 40) (tgt := 41) hx hb d_D_count_1 (by rw [hq1]; decide) (by rw [hq1]; decide) (by rw [hq1]; rfl) (by decide) ?_
      refine lv_aload_n hx hb d_D_count_41 rfl (lv_at hl 0 rfl) ?_
      refine gf_D_24 (v := .int pw) hB hP 0 rfl rfl d_D_count_42 ?_
      refine lv_if_eq (tgt := 55) hx hb d_D_count_45 (by decide) (fun hc45 => ?_) (fun hc45 => ?_)
      · skip
        refine lv_iconst (v := nI 0) hx hb d_D_count_55 (by decide) ?_
        exact r_iS hB hr0 hlk (by rw [cnt_1 hq1, if_pos hc45]) d_D_count_56
      · skip
        refine lv_aload_n hx hb d_D_count_48 rfl (lv_at hl 0 rfl) ?_
        refine x_cSi (As := []) (rest := []) (n := 0) hB (c_D_many l h1 h2) gi_D_96 (by decide +kernel) rfl rfl ⟨Nat.le_of_ble_eq_true rfl, Nat.le_of_ble_eq_true rfl⟩ hP hD 0 rfl rfl hl.1 rfl (Nat.le_of_ble_eq_true rfl) d_D_count_49 ⟨Nat.le_of_ble_eq_true rfl, Nat.le_of_ble_eq_true rfl⟩ (fun r hr => ?_)
        subst hr
        refine lv_goto (tgt := 56) hx hb d_D_count_52 (by decide) ?_
        exact r_iS hB hr0 hlk (by rw [cnt_1 hq1, if_neg hc45]) d_D_count_56
    · skip
      by_cases hq2 : x = 2
      · skip
        refine lv_tableIn (off := 56) (tgt := 57) hx hb d_D_count_1 (by rw [hq2]; decide) (by rw [hq2]; decide) (by rw [hq2]; rfl) (by decide) ?_
        refine lv_aload_n hx hb d_D_count_57 rfl (lv_at hl 0 rfl) ?_
        refine gf_D_24 (v := .int pw) hB hP 0 rfl rfl d_D_count_58 ?_
        refine lv_if_eq (tgt := 71) hx hb d_D_count_61 (by decide) (fun hc61 => ?_) (fun hc61 => ?_)
        · skip
          refine lv_iconst (v := nI 0) hx hb d_D_count_71 (by decide) ?_
          exact r_iS hB hr0 hlk (by rw [cnt_2 hq2, if_pos hc61]) d_D_count_72
        · skip
          refine lv_aload_n hx hb d_D_count_64 rfl (lv_at hl 0 rfl) ?_
          refine x_cSi (As := []) (rest := []) (n := 0) hB (c_D_used l h1 h2 hs) gi_D_82 (by decide +kernel) rfl rfl ⟨Nat.le_of_ble_eq_true rfl, Nat.le_of_ble_eq_true rfl⟩ hP hD 0 rfl rfl hl.1 rfl (Nat.le_of_ble_eq_true rfl) d_D_count_65 ⟨Nat.le_of_ble_eq_true rfl, Nat.le_of_ble_eq_true rfl⟩ (fun r hr => ?_)
          subst hr
          refine lv_goto (tgt := 72) hx hb d_D_count_68 (by decide) ?_
          exact r_iS hB hr0 hlk (by rw [cnt_2 hq2, if_neg hc61]) d_D_count_72
      · skip
        by_cases hq3 : x = 3
        · skip
          refine lv_tableIn (off := 72) (tgt := 73) hx hb d_D_count_1 (by rw [hq3]; decide) (by rw [hq3]; decide) (by rw [hq3]; rfl) (by decide) ?_
          refine lv_aload_n hx hb d_D_count_73 rfl (lv_at hl 0 rfl) ?_
          refine gf_D_41 (v := .int (nI nx)) hB hP 0 rfl rfl d_D_count_74 ?_
          exact r_iS hB hr0 hlk (cnt_3 hq3).symm d_D_count_77
        · skip
          by_cases hq4 : x = 4
          · skip
            refine lv_tableIn (off := 77) (tgt := 78) hx hb d_D_count_1 (by rw [hq4]; decide) (by rw [hq4]; decide) (by rw [hq4]; rfl) (by decide) ?_
            refine lv_aload_n hx hb d_D_count_78 rfl (lv_at hl 0 rfl) ?_
            refine gf_D_24 (v := .int pw) hB hP 0 rfl rfl d_D_count_79 ?_
            refine lv_if_eq (tgt := 89) hx hb d_D_count_82 (by decide) (fun hc82 => ?_) (fun hc82 => ?_)
            · skip
              refine lv_iconst (v := nI 0) hx hb d_D_count_89 (by decide) ?_
              exact r_iS hB hr0 hlk (by rw [cnt_4 hq4, if_pos hc82]) d_D_count_90
            · skip
              refine lv_iconst (v := nI 1) hx hb d_D_count_85 (by decide) ?_
              refine lv_goto (tgt := 90) hx hb d_D_count_86 (by decide) ?_
              exact r_iS hB hr0 hlk (by rw [cnt_4 hq4, if_neg hc82]) d_D_count_90
          · skip
            refine lv_tableOut (tgt := 91) hx hb d_D_count_1 (by have := lv_neT hq0 (a := 0) rfl; have := lv_neT hq1 (a := 1) rfl; have := lv_neT hq2 (a := 2) rfl; have := lv_neT hq3 (a := 3) rfl; have := lv_neT hq4 (a := 4) rfl; omega) (by decide) ?_
            refine lv_iconst (v := (-1)) hx hb d_D_count_91 (by decide) ?_
            exact r_iS hB hr0 hlk (cnt_d hq0 hq1 hq2 hq3 hq4).symm d_D_count_92
set_option maxHeartbeats 4000000 in
set_option maxRecDepth 100000 in
/-- put that is refused -/
theorem c_D_putN (l : Launch) {D : va_G} {A : Nat → Prop} {cs : Nat → ClassId} {ad : Nat → Nat} {sz : Nat} {cu pw : Int32} {ol nx en : Nat} {rc : Int32} {B Rt Tp : Nat → Int32} {eA eS : Nat → Nat} {eN : Nat → Int32} {R : va_W} {v : Int64} {x : Int32} (h0 : sz ≤ 100) (h : ∀ j, 1 ≤ j → j ≤ 8 → sz + j ≤ 100 → ¬ x = nI j) : Met l y_D_put (Cond.code y_D_put b_D_put 5 (some .boolean) :: gw) (rmn 0) (va_Pc [.ref (ad 0), .long v, .int x] (St D cs A (dW cs ad sz cu pw ol nx en rc B Rt Tp eA eS eN R))) (QI D A (fun r z => r = 0 ∧ z = dW cs ad sz cu pw ol nx en rc B Rt Tp eA eS eN R)) 0 0 A := by
  refine x_start (by decide) (Nat.le_of_ble_eq_true rfl) ?_
  intro p e s m below meth c hB hr hlk hin hP hD ls hl
  have hx := hB.1
  have hb := hB.2.1
  have hown := hB.2.2.2.1
  have hts := hB.2.2.2.2.1
  have hK := hB.2.2.2.2.2.1
  have hS : va_S A s.heap s.heap [] := va_S.rf
  have hl : lv_has ls 5 [(0, .ref (ad 0)), (1, .long v), (3, .int x)] := hl
  have hr0 := hr
  refine lv_iload_n hx hb d_D_put_0 rfl (lv_at hl 2 rfl) ?_
  refine lv_iconst (v := 1) hx hb d_D_put_1 (by decide) ?_
  refine lv_icmp_lt (tgt := 22) hx hb d_D_put_2 (by decide) (fun hc2 => ?_) (fun hc2 => ?_)
  · skip
    refine lv_iconst (v := 0) hx hb d_D_put_22 (by decide) ?_
    exact r_zQ hB hr0 hlk (by decide) hP hD hS ⟨rfl, rfl⟩ d_D_put_23
  · skip
    refine lv_iload_n hx hb d_D_put_5 rfl (lv_at hl 2 rfl) ?_
    refine lv_bipush (v := 8) hx hb d_D_put_6 (by decide) ?_
    refine lv_icmp_gt (tgt := 22) hx hb d_D_put_8 (by decide) (fun hc8 => ?_) (fun hc8 => ?_)
    · skip
      refine lv_iconst (v := 0) hx hb d_D_put_22 (by decide) ?_
      exact r_zQ hB hr0 hlk (by decide) hP hD hS ⟨rfl, rfl⟩ d_D_put_23
    · skip
      obtain ⟨j, hj8, hxj⟩ := nI_of2 (x := x) (M := 8) (n := 8) rfl (fun q => hc2 (Int32.lt_trans q (by decide))) (Int32.not_lt.mp hc8)
      have hj1 : 1 ≤ j := Nat.pos_of_ne_zero (fun q => hc2 (by rw [hxj, q]; decide))
      rw [hxj] at hl
      refine lv_aload_n hx hb d_D_put_11 rfl (lv_at hl 0 rfl) ?_
      refine gf_D_35 (v := .int (nI sz)) hB hP 0 rfl rfl d_D_put_12 ?_
      refine lv_iload_n hx hb d_D_put_15 rfl (lv_at hl 2 rfl) ?_
      refine n_add hx hb d_D_put_16 ?_
      refine lv_bipush (v := nI 100) hx hb d_D_put_17 (by decide) ?_
      refine n_icmp_le hx hb (by omega) (by omega) (tgt := 24) d_D_put_19 (by decide) (fun hc19 => (absurd hxj (h j hj1 hj8 hc19))) (fun hc19 => ?_)
      refine lv_iconst (v := 0) hx hb d_D_put_22 (by decide) ?_
      exact r_zQ hB hr0 hlk (by decide) hP hD hS ⟨rfl, rfl⟩ d_D_put_23
set_option maxHeartbeats 4000000 in
set_option maxRecDepth 100000 in
/-- put: j bytes behind the tape -/
theorem c_D_put (l : Launch) {D : va_G} {A : Nat → Prop} {cs : Nat → ClassId} {ad : Nat → Nat} {sz : Nat} {cu pw : Int32} {ol nx en : Nat} {rc : Int32} {B Rt Tp : Nat → Int32} {eA eS : Nat → Nat} {eN : Nat → Int32} {R : va_W} {v : Int64} {j : Nat} (h1 : 1 ≤ j) (h2 : j ≤ 8) (h3 : sz + j ≤ 100) : Met l y_D_put (Cond.code y_D_put b_D_put 5 (some .boolean) :: gw) (rmn 0) (va_Pc [.ref (ad 0), .long v, .int (nI j)] (St D cs A (dW cs ad sz cu pw ol nx en rc B Rt Tp eA eS eN R))) (QI D A (fun r z => r = 1 ∧ ∃ T1 : Nat → Int32, z = dW cs ad (sz + j) cu pw ol nx en rc B Rt T1 eA eS eN R ∧ (∀ i, i < sz → T1 i = Tp i) ∧ ∀ i, i < j → T1 (sz + i) = (pb v (j - 1 - i)).toInt8.toInt32)) 0 0 A := by
  refine x_start (by decide) (Nat.le_of_ble_eq_true rfl) ?_
  intro p e s m below meth c hB hr hlk hin hP hD ls hl
  have hx := hB.1
  have hb := hB.2.1
  have hown := hB.2.2.2.1
  have hts := hB.2.2.2.2.1
  have hK := hB.2.2.2.2.2.1
  have hS : va_S A s.heap s.heap [] := va_S.rf
  have hl : lv_has ls 5 [(0, .ref (ad 0)), (1, .long v), (3, .int (nI j))] := hl
  have hr0 := hr
  have loop : ∀ (n i u : Nat) (T1 : Nat → Int32), i + u = j → (∀ q, q < sz → T1 q = Tp q) → (∀ q, q < i → T1 (sz + q) = (pb v (j - 1 - q)).toInt8.toInt32) → u + 1 ≤ n → ∀ (H : Heap) (locs : List Loc), va_P D classes (dW cs ad (sz + i) cu pw ol nx en rc B Rt T1 eA eS eN R) H → va_D A (dW cs ad (sz + i) cu pw ol nx en rc B Rt T1 eA eS eN R) → va_S A s.heap H locs → ∀ ls : Array Slot, lv_has ls 5 [(0, .ref (ad 0)), (1, .long v), (4, .int (nI u - 1))] → W p l e (rmn 0) s m ([.ref (ad 0), .long v, .int (nI j)] : List Value).toArray below meth c H locs 0 0 (MQ below (QI D A (fun r z => r = 1 ∧ ∃ T1 : Nat → Int32, z = dW cs ad (sz + j) cu pw ol nx en rc B Rt T1 eA eS eN R ∧ (∀ i, i < sz → T1 i = Tp i) ∧ ∀ i, i < j → T1 (sz + i) = (pb v (j - 1 - i)).toInt8.toInt32)) ([.ref (ad 0), .long v, .int (nI j)] : List Value).toArray s 0 0 A) (F0 m 29 ls []) := by
    intro n
    induction n with
    | zero => intro i u T1 hic hT0 hT hm; exfalso; omega
    | succ n ih =>
      intro i u T1 hic hT0 hT hm H locs hP hD hS ls hl
      rcases u with _ | u
      · skip
        refine lv_iload hx hb d_D_put_29 (lv_at hl 2 rfl) ?_
        refine lv_if_lt (tgt := 68) hx hb d_D_put_31 (by decide) (fun hc31 => ?_) (fun hc31 => (absurd (show nI 0 - 1 < 0 by decide) hc31))
        refine lv_iconst (v := 1) hx hb d_D_put_68 (by decide) ?_
        exact r_zQ hB hr0 hlk (by decide) hP hD hS ⟨rfl, T1, by rw [show sz + j = sz + i by omega], hT0, fun q hq => hT q (by omega)⟩ d_D_put_69
      · skip
        rw [nI_pred] at hl
        refine lv_iload hx hb d_D_put_29 (lv_at hl 2 rfl) ?_
        refine n_if_lt hx hb (by omega) (tgt := 68) d_D_put_31 (by decide) ?_
        refine lv_aload_n hx hb d_D_put_34 rfl (lv_at hl 0 rfl) ?_
        refine gf_D_16 (v := .ref (ad 4)) hB hP 0 rfl rfl d_D_put_35 ?_
        refine lv_aload_n hx hb d_D_put_38 rfl (lv_at hl 0 rfl) ?_
        refine gf_D_35 (v := .int (nI (sz + i))) hB hP 0 rfl rfl d_D_put_39 ?_
        refine lv_lload_n hx hb d_D_put_42 rfl (lv_at hl 1 rfl) ?_
        refine lv_bipush (v := nI 8) hx hb d_D_put_43 (by decide) ?_
        refine lv_iload hx hb d_D_put_45 (lv_at hl 2 rfl) ?_
        refine n_mul hx hb d_D_put_47 ?_
        refine lv_lshr (v := v >>> ((nI (8 * u)).toInt64 &&& 63)) hx hb d_D_put_48 rfl ?_
        refine lv_l2i (v := (v >>> ((nI (8 * u)).toInt64 &&& 63)).toInt32) hx hb d_D_put_49 rfl ?_
        refine lv_i2b (v := ((v >>> ((nI (8 * u)).toInt64 &&& 63)).toInt32).toInt8.toInt32) hx hb d_D_put_50 rfl ?_
        refine n_bastB hx hb hK hP hD hS 4 0 rfl rfl (by omega) (by decide) d_D_put_51 (fun H locs hP hD hS => ?_)
        have hP : va_P D classes (dW cs ad (sz + i) cu pw ol nx en rc B Rt (upd T1 (sz + i) (((v >>> ((nI (8 * u)).toInt64 &&& 63)).toInt32).toInt8.toInt32)) eA eS eN R) H := hP
        have hD : va_D A (dW cs ad (sz + i) cu pw ol nx en rc B Rt (upd T1 (sz + i) (((v >>> ((nI (8 * u)).toInt64 &&& 63)).toInt32).toInt8.toInt32)) eA eS eN R) := hD
        refine lv_aload_n hx hb d_D_put_52 rfl (lv_at hl 0 rfl) ?_
        refine lv_dup hx hb d_D_put_53 rfl ?_
        refine gf_D_35 (v := .int (nI (sz + i))) hB hP 0 rfl rfl d_D_put_54 ?_
        refine lv_iconst (v := nI 1) hx hb d_D_put_57 (by decide) ?_
        refine n_add hx hb d_D_put_58 ?_
        refine pf_D_35 hB hP hD hS 0 rfl (Nat.le_of_ble_eq_true rfl) d_D_put_59 (fun H locs hP hD hS => ?_)
        have hP : va_P D classes (dW cs ad ((sz + i) + 1) cu pw ol nx en rc B Rt (upd T1 (sz + i) (((v >>> ((nI (8 * u)).toInt64 &&& 63)).toInt32).toInt8.toInt32)) eA eS eN R) H := hP
        have hD : va_D A (dW cs ad ((sz + i) + 1) cu pw ol nx en rc B Rt (upd T1 (sz + i) (((v >>> ((nI (8 * u)).toInt64 &&& 63)).toInt32).toInt8.toInt32)) eA eS eN R) := hD
        refine lv_iinc (k := 2) (v := nI u - 1) (lv' := [(4, .int (nI u - 1)), (0, .ref (ad 0)), (1, .long v)]) hx hb d_D_put_62 hl rfl (dec_eq _) (by decide) rfl (fun ls hl => ?_)
        refine lv_goto (tgt := 29) hx hb d_D_put_65 (by decide) ?_
        exact ih (i + 1) u (upd T1 (sz + i) (pb v u).toInt8.toInt32) (by omega) (fun q hq => by rw [pk_un (by omega)]; exact hT0 q hq) (fun q hq => by
            by_cases e : q = i
            · subst e; rw [pk_us, show j - 1 - q = u by omega]
            · rw [pk_un (by omega)]; exact hT q (by omega)) (by omega) _ _ hP hD hS ls (lv_sub hl [1, 2, 0] rfl)
  refine lv_iload_n hx hb d_D_put_0 rfl (lv_at hl 2 rfl) ?_
  refine lv_iconst (v := nI 1) hx hb d_D_put_1 (by decide) ?_
  refine n_icmp_lt hx hb (by omega) (by omega) (tgt := 22) d_D_put_2 (by decide) (fun hc2 => (absurd hc2 (by omega))) (fun hc2 => ?_)
  refine lv_iload_n hx hb d_D_put_5 rfl (lv_at hl 2 rfl) ?_
  refine lv_bipush (v := nI 8) hx hb d_D_put_6 (by decide) ?_
  refine n_icmp_gt hx hb (by omega) (by omega) (tgt := 22) d_D_put_8 (by decide) (fun hc8 => (absurd hc8 (by omega))) (fun hc8 => ?_)
  refine lv_aload_n hx hb d_D_put_11 rfl (lv_at hl 0 rfl) ?_
  refine gf_D_35 (v := .int (nI sz)) hB hP 0 rfl rfl d_D_put_12 ?_
  refine lv_iload_n hx hb d_D_put_15 rfl (lv_at hl 2 rfl) ?_
  refine n_add hx hb d_D_put_16 ?_
  refine lv_bipush (v := nI 100) hx hb d_D_put_17 (by decide) ?_
  refine n_icmp_le hx hb (by omega) (by omega) (tgt := 24) d_D_put_19 (by decide) (fun hc19 => ?_) (fun hc19 => (absurd hc19 (by omega)))
  refine lv_iload_n hx hb d_D_put_24 rfl (lv_at hl 2 rfl) ?_
  refine lv_iconst (v := 1) hx hb d_D_put_25 (by decide) ?_
  refine lv_isub hx hb d_D_put_26 ?_
  refine lv_istore (lv' := [(4, .int ((nI j) - 1)), (0, .ref (ad 0)), (1, .long v), (3, .int (nI j))]) hx hb d_D_put_27 hl (by decide) rfl (fun ls hl => ?_)
  exact loop (j + 1) 0 j Tp (by omega) (fun _ _ => rfl) (fun q hq => absurd hq (Nat.not_lt_zero q)) (by omega) _ _ hP hD hS ls (lv_sub hl [1, 2, 0] rfl)
set_option maxHeartbeats 4000000 in
set_option maxRecDepth 100000 in
/-- cut -/
theorem c_D_cut (l : Launch) {D : va_G} {A : Nat → Prop} {cs : Nat → ClassId} {ad : Nat → Nat} {sz : Nat} {cu pw : Int32} {ol nx en : Nat} {rc : Int32} {B Rt Tp : Nat → Int32} {eA eS : Nat → Nat} {eN : Nat → Int32} {R : va_W} {x : Int32}  : Met l y_D_cut (Cond.code y_D_cut b_D_cut 2 (some .boolean) :: gw) (rmn 0) (va_Pc [.ref (ad 0), .int x] (St D cs A (dW cs ad sz cu pw ol nx en rc B Rt Tp eA eS eN R))) (QI D A (fun r z => r = (if x < -1 ∨ 8 < x then 0 else 1) ∧ z = dW cs ad sz (if x < -1 ∨ 8 < x then cu else x) pw ol nx en rc B Rt Tp eA eS eN R)) 0 0 A := by
  refine x_start (by decide) (Nat.le_of_ble_eq_true rfl) ?_
  intro p e s m below meth c hB hr hlk hin hP hD ls hl
  have hx := hB.1
  have hb := hB.2.1
  have hown := hB.2.2.2.1
  have hts := hB.2.2.2.2.1
  have hK := hB.2.2.2.2.2.1
  have hS : va_S A s.heap s.heap [] := va_S.rf
  have hl : lv_has ls 2 [(0, .ref (ad 0)), (1, .int x)] := hl
  have hr0 := hr
  refine lv_iload_n hx hb d_D_cut_0 rfl (lv_at hl 1 rfl) ?_
  refine lv_iconst (v := (-1)) hx hb d_D_cut_1 (by decide) ?_
  refine lv_icmp_lt (tgt := 11) hx hb d_D_cut_2 (by decide) (fun hc2 => ?_) (fun hc2 => ?_)
  · skip
    refine lv_iconst (v := 0) hx hb d_D_cut_11 (by decide) ?_
    exact r_zQ hB hr0 hlk (by decide) hP hD hS (by rw [if_pos (Or.inl hc2), if_pos (Or.inl hc2)]; exact ⟨rfl, rfl⟩) d_D_cut_12
  · skip
    refine lv_iload_n hx hb d_D_cut_5 rfl (lv_at hl 1 rfl) ?_
    refine lv_bipush (v := 8) hx hb d_D_cut_6 (by decide) ?_
    refine lv_icmp_le (tgt := 13) hx hb d_D_cut_8 (by decide) (fun hc8 => ?_) (fun hc8 => ?_)
    · skip
      refine lv_aload_n hx hb d_D_cut_13 rfl (lv_at hl 0 rfl) ?_
      refine lv_iload_n hx hb d_D_cut_14 rfl (lv_at hl 1 rfl) ?_
      refine pf_D_20 hB hP hD hS 0 rfl (Nat.le_of_ble_eq_true rfl) d_D_cut_15 (fun H locs hP hD hS => ?_)
      have hP : va_P D classes (dW cs ad sz x pw ol nx en rc B Rt Tp eA eS eN R) H := hP
      have hD : va_D A (dW cs ad sz x pw ol nx en rc B Rt Tp eA eS eN R) := hD
      refine lv_iconst (v := 1) hx hb d_D_cut_18 (by decide) ?_
      exact r_zQ hB hr0 hlk (by decide) hP hD hS (by rw [if_neg (fun q => q.elim hc2 (Int32.not_lt.mpr hc8)), if_neg (fun q => q.elim hc2 (Int32.not_lt.mpr hc8))]; exact ⟨rfl, rfl⟩) d_D_cut_19
    · skip
      refine lv_iconst (v := 0) hx hb d_D_cut_11 (by decide) ?_
      exact r_zQ hB hr0 hlk (by decide) hP hD hS (by rw [if_pos (Or.inr (Int32.not_le.mp hc8)), if_pos (Or.inr (Int32.not_le.mp hc8))]; exact ⟨rfl, rfl⟩) d_D_cut_12
end
section
/-! bytes on the disk, in plain words -/
theorem tn_mod (x : Int32) : ((x.toBitVec.toNat % 256 : Nat) : Int) = x.toInt % 256 := by
  have h1 : x.toInt = if 2 * x.toBitVec.toNat < 2 ^ 32 then (x.toBitVec.toNat : Int) else (x.toBitVec.toNat : Int) - (2 ^ 32 : Nat) := BitVec.toInt_eq_toNat_cond x.toBitVec
  rw [h1]
  split <;> omega
theorem by_and (x : Int32) : x.toInt8.toInt32 &&& 255 = x &&& 255 := by
  rw [pk_and x (m := 255) 8 (by decide), pk_and x.toInt8.toInt32 (m := 255) 8 (by decide)]
  congr 1
  have h1 := tn_mod x
  have h2 := tn_mod x.toInt8.toInt32
  have h3 : x.toInt8.toInt32.toInt = x.toInt.bmod 256 := by
    rw [Int8.toInt_toInt32, Int32.toInt_toInt8]
  rw [h3] at h2
  have h4 : x.toInt.bmod 256 % 256 = x.toInt % 256 := by
    rw [Int.bmod_def]
    split <;> omega
  omega
theorem nI_or8 {n : Nat} (h : n < 65536) : nI (n / 256 * 256) ||| nI (n % 256) = nI n := by
  apply Int32.toBitVec_inj.mp
  apply BitVec.eq_of_toNat_eq
  rw [Int32.toBitVec_or, BitVec.toNat_or, pk_tn (by omega), pk_tn (by omega), pk_tn (by omega)]
  have h1 : n / 256 * 256 = (n / 256) <<< 8 := by rw [Nat.shiftLeft_eq]
  rw [h1, Nat.shiftLeft_add_eq_or_of_lt (by omega) (n / 256) |>.symm, Nat.shiftLeft_eq]
  exact Nat.div_add_mod' n 256
theorem wr1 {n : Nat} (h : n < 256) : (nI n).toInt8.toInt32 &&& 255 = nI n := sc_k8 n h
theorem wr2 {n : Nat} (h : n < 65536) : ((nI n >>> ((8 : Int32) &&& 31)).toInt8.toInt32 &&& 255) <<< ((8 : Int32) &&& 31) ||| ((nI n).toInt8.toInt32 &&& 255) = nI n := by
  rw [pk_shrN (by omega) ((8 : Int32) &&& 31) 8 (by decide), wr1 (by omega), by_and, pk_andN (by omega) (m := 255) 8 (by decide), pk_shlN ((8 : Int32) &&& 31) 8 (by decide) (by omega)]
  exact nI_or8 h
/-- what a written sector tells -/
def sectH (B : Nat → Int32) (t nx k bs ke : Nat) (nu rc : Int32) (Tp : Nat → Int32) : Prop := r2 B t 0 = nI nx ∧ r1 B t 2 = nI k ∧ r1 B t 3 = (if nu = -1 then nI 255 else nI bs) ∧ r2 B t 4 = nI ke ∧ r2 B t 6 = rc ∧ ∀ j, j < 12 → 12 * k + j < bs → B (20 * t + 8 + j) = (Tp (12 * k + j)).toInt8.toInt32
def hd5 (B : Nat → Int32) (i nx pl : Nat) (vs : Int32) (ke : Nat) (rc : Int32) : Nat → Int32 := w2 (w2 (w1 (w1 (w2 B (20 * i + 0) (nI nx)) (20 * i + 2) (nI pl)) (20 * i + 3) vs) (20 * i + 4) (nI ke)) (20 * i + 6) rc
theorem w1_s {B : Nat → Int32} {i : Nat} {v : Int32} : w1 B i v i = v.toInt8.toInt32 := pk_us
theorem w1_n {B : Nat → Int32} {i q : Nat} {v : Int32} (h : q ≠ i) : w1 B i v q = B q := pk_un h
theorem w2_a {B : Nat → Int32} {i : Nat} {v : Int32} : w2 B i v i = (v >>> ((8 : Int32) &&& 31)).toInt8.toInt32 := by
  unfold w2
  rw [pk_un (by omega), pk_us]
theorem w2_b {B : Nat → Int32} {i q : Nat} {v : Int32} (h : q = i + 1) : w2 B i v q = v.toInt8.toInt32 := by
  subst h
  exact pk_us
theorem w2_n {B : Nat → Int32} {i q : Nat} {v : Int32} (h : q ≠ i) (h2 : q ≠ i + 1) : w2 B i v q = B q := by
  unfold w2
  rw [pk_un h2, pk_un h]
theorem hd5_n {B : Nat → Int32} {i nx pl ke q : Nat} {vs rc : Int32} (h : q < 20 * i ∨ 20 * i + 8 ≤ q) : hd5 B i nx pl vs ke rc q = B q := by
  unfold hd5
  rw [w2_n (by omega) (by omega), w2_n (by omega) (by omega), w1_n (by omega), w1_n (by omega), w2_n (by omega) (by omega)]
theorem hd5_ok {B B1 : Nat → Int32} {i nx pl ke bs q : Nat} {vs rc nu : Int32} {Tp : Nat → Int32} (hx : nx < 65536) (hp : pl < 256) (hk : ke < 65536) (hb : bs < 256) (hq : q < 65536) (hr : rc = nI q) (hv : vs = (if nu = -1 then nI 255 else nI bs)) (h : ∀ z, z < 20 * i + 8 → B1 z = hd5 B i nx pl vs ke rc z) (hd : ∀ j, j < 12 → 12 * pl + j < bs → B1 (20 * i + 8 + j) = (Tp (12 * pl + j)).toInt8.toInt32) : sectH B1 i nx pl bs ke nu rc Tp := by
  refine ⟨?_, ?_, ?_, ?_, ?_, hd⟩
  · unfold r2
    rw [h _ (by omega), h _ (by omega)]
    unfold hd5
    rw [w2_n (by omega) (by omega), w2_n (by omega) (by omega), w1_n (by omega), w1_n (by omega), w2_a]
    rw [w2_n (by omega) (by omega), w2_n (by omega) (by omega), w1_n (by omega), w1_n (by omega), w2_b (by omega)]
    exact wr2 hx
  · unfold r1
    rw [h _ (by omega)]
    unfold hd5
    rw [w2_n (by omega) (by omega), w2_n (by omega) (by omega), w1_n (by omega), w1_s]
    exact wr1 hp
  · unfold r1
    rw [h _ (by omega)]
    unfold hd5
    rw [w2_n (by omega) (by omega), w2_n (by omega) (by omega), w1_s, hv]
    split
    · exact wr1 (by omega)
    · exact wr1 hb
  · unfold r2
    rw [h _ (by omega), h _ (by omega)]
    unfold hd5
    rw [w2_n (by omega) (by omega), w2_a]
    rw [w2_n (by omega) (by omega), w2_b (by omega)]
    exact wr2 hk
  · unfold r2
    rw [h _ (by omega), h _ (by omega)]
    unfold hd5
    rw [w2_a, w2_b (by omega), hr]
    exact wr2 hq
theorem r1_kept {B B1 : Nat → Int32} {t k : Nat} (hk : k < 20) (h : ∀ j, j < 20 → B1 (20 * t + j) = B (20 * t + j)) : r1 B1 t k = r1 B t k := by
  unfold r1
  rw [h k hk]
theorem r2_kept {B B1 : Nat → Int32} {t k : Nat} (hk : k < 19) (h : ∀ j, j < 20 → B1 (20 * t + j) = B (20 * t + j)) : r2 B1 t k = r2 B t k := by
  unfold r2
  rw [h k (by omega), Nat.add_assoc (20 * t) k 1, h (k + 1) (by omega)]
theorem sectH_kept {B B1 : Nat → Int32} {t nx k bs ke : Nat} {nu rc : Int32} {Tp : Nat → Int32} (h : ∀ j, j < 20 → B1 (20 * t + j) = B (20 * t + j)) (s : sectH B t nx k bs ke nu rc Tp) : sectH B1 t nx k bs ke nu rc Tp := by
  obtain ⟨s1, s2, s3, s4, s5, s6⟩ := s
  refine ⟨by rw [r2_kept (by omega) h]; exact s1, by rw [r1_kept (by omega) h]; exact s2, by rw [r1_kept (by omega) h]; exact s3, by rw [r2_kept (by omega) h]; exact s4, by rw [r2_kept (by omega) h]; exact s5, fun j hj hb => ?_⟩
  rw [Nat.add_assoc (20 * t) 8 j, h (8 + j) (by omega), ← Nat.add_assoc (20 * t) 8 j]
  exact s6 j hj hb
/-- w sectors of entry nx have been written from sector en on; all others stand -/
def wrote (B Rt B1 R1 : Nat → Int32) (en nx w bs ke : Nat) (nu rc : Int32) (Tp : Nat → Int32) : Prop :=
  (∀ t, t < 40 → (∀ k, k < w → ¬ t = (en + k) % 40) → (∀ j, j < 20 → B1 (20 * t + j) = B (20 * t + j)) ∧ R1 t = Rt t) ∧ ∀ k, k < w → R1 ((en + k) % 40) = 1 ∧ sectH B1 ((en + k) % 40) nx k bs ke nu rc Tp
theorem wrote_0 {B Rt : Nat → Int32} {en nx bs ke : Nat} {nu rc : Int32} {Tp : Nat → Int32} : wrote B Rt B Rt en nx 0 bs ke nu rc Tp := ⟨fun t _ _ => ⟨fun _ _ => rfl, rfl⟩, fun k hk => absurd hk (Nat.not_lt_zero k)⟩
theorem wrote_s {B Rt B1 R1 B2 : Nat → Int32} {en nx w bs ke : Nat} {nu rc : Int32} {Tp : Nat → Int32} (h : wrote B Rt B1 R1 en nx w bs ke nu rc Tp) (hw : w < 40) (hf : ∀ t, ¬ t = (en + w) % 40 → ∀ j, j < 20 → B2 (20 * t + j) = B1 (20 * t + j)) (hs : sectH B2 ((en + w) % 40) nx w bs ke nu rc Tp) : wrote B Rt B2 (upd R1 ((en + w) % 40) (nI 1)) en nx (w + 1) bs ke nu rc Tp := by
  refine ⟨fun t ht hn => ?_, fun k hk => ?_⟩
  · obtain ⟨h1, h2⟩ := h.1 t ht (fun k hk => hn k (by omega))
    have hne : ¬ t = (en + w) % 40 := hn w (by omega)
    exact ⟨fun j hj => by rw [hf t hne j hj]; exact h1 j hj, by rw [pk_un hne]; exact h2⟩
  · by_cases e : k = w
    · subst e
      exact ⟨by rw [pk_us]; rfl, hs⟩
    · obtain ⟨h1, h2⟩ := h.2 k (by omega)
      have hne : ¬ (en + k) % 40 = (en + w) % 40 := by omega
      exact ⟨by rw [pk_un hne]; exact h1, sectH_kept (hf _ hne) h2⟩
theorem nI_nm1 {n : Nat} (h : n < 2 ^ 31) : ¬ nI n = -1 := by
  intro q
  have h1 := nI_toInt h
  rw [q] at h1
  have h2 : ((-1 : Int32)).toInt = -1 := by decide
  omega
end
section
/-! the desk writes: sector, append -/
set_option maxHeartbeats 4000000 in
set_option maxRecDepth 100000 in
/-- one sector is written -/
theorem c_D_sector (l : Launch) {D : va_G} {A : Nat → Prop} {cs : Nat → ClassId} {ad : Nat → Nat} {sz : Nat} {cu pw : Int32} {ol nx en : Nat} {rc : Int32} {B Rt Tp : Nat → Int32} {eA eS : Nat → Nat} {eN : Nat → Int32} {R : va_W} {i pl bs ke q : Nat} {nu : Int32} (hi : i < 40) (hp : pl < 256) (hb2 : bs ≤ 100) (hx2 : nx < 65536) (hk2 : ke < 65536) (hq : q < 65536) (hrc : rc = nI q) : Met l y_D_sector (Cond.code y_D_sector b_D_sector 7 none :: gw) (rmn 1) (va_Pc [.ref (ad 0), .int (nI i), .int (nI pl), .int (nI bs), .int (nI ke), .int nu] (St D cs A (dW cs ad sz cu pw ol nx en rc B Rt Tp eA eS eN R))) (QV D A (fun z => ∃ B1 : Nat → Int32, z = dW cs ad sz cu pw ol nx en rc B1 (upd Rt i (nI 1)) Tp eA eS eN R ∧ (∀ t, ¬ t = i → ∀ j, j < 20 → B1 (20 * t + j) = B (20 * t + j)) ∧ sectH B1 i nx pl bs ke nu rc Tp)) 0 0 A := by
  refine x_start (by decide) (Nat.le_of_ble_eq_true rfl) ?_
  intro p e s m below meth c hB hr hlk hin hP hD ls hl
  have hx := hB.1
  have hb := hB.2.1
  have hown := hB.2.2.2.1
  have hts := hB.2.2.2.2.1
  have hK := hB.2.2.2.2.2.1
  have hS : va_S A s.heap s.heap [] := va_S.rf
  have hl : lv_has ls 7 [(0, .ref (ad 0)), (1, .int (nI i)), (2, .int (nI pl)), (3, .int (nI bs)), (4, .int (nI ke)), (5, .int nu)] := hl
  have hr0 := hr
  refine lv_aload_n hx hb d_D_sector_0 rfl (lv_at hl 0 rfl) ?_
  refine gf_D_10 (v := .ref (ad 1)) hB hP 0 rfl rfl d_D_sector_1 ?_
  refine lv_iload_n hx hb d_D_sector_4 rfl (lv_at hl 1 rfl) ?_
  refine lv_iconst (v := nI 0) hx hb d_D_sector_5 (by decide) ?_
  refine lv_aload_n hx hb d_D_sector_6 rfl (lv_at hl 0 rfl) ?_
  refine gf_D_41 (v := .int (nI nx)) hB hP 0 rfl rfl d_D_sector_7 ?_
  refine x_cQv (As := [.int (nI i), .int (nI 0), .int (nI nx)]) (rest := []) (n := 3) hB (c_K_two l (i := i) (j := 0) (v := nI nx) (by omega)) gi_D_51 (by decide +kernel) rfl rfl ⟨Nat.le_of_ble_eq_true rfl, Nat.le_of_ble_eq_true rfl⟩ hP hD hS 1 rfl rfl hl.1 rfl (Nat.le_of_ble_eq_true rfl) d_D_sector_10 ⟨Nat.le_of_ble_eq_true rfl, Nat.le_of_ble_eq_true rfl⟩ (fun w H locs hw hP hD hS => ?_)
  subst hw
  refine lv_aload_n hx hb d_D_sector_13 rfl (lv_at hl 0 rfl) ?_
  refine gf_D_10 (v := .ref (ad 1)) hB hP 0 rfl rfl d_D_sector_14 ?_
  refine lv_iload_n hx hb d_D_sector_17 rfl (lv_at hl 1 rfl) ?_
  refine lv_iconst (v := nI 2) hx hb d_D_sector_18 (by decide) ?_
  refine lv_iload_n hx hb d_D_sector_19 rfl (lv_at hl 2 rfl) ?_
  refine x_cQv (As := [.int (nI i), .int (nI 2), .int (nI pl)]) (rest := []) (n := 3) hB (c_K_one l (i := i) (j := 2) (v := nI pl) (by omega)) gi_D_55 (by decide +kernel) rfl rfl ⟨Nat.le_of_ble_eq_true rfl, Nat.le_of_ble_eq_true rfl⟩ hP hD hS 1 rfl rfl hl.1 rfl (Nat.le_of_ble_eq_true rfl) d_D_sector_20 ⟨Nat.le_of_ble_eq_true rfl, Nat.le_of_ble_eq_true rfl⟩ (fun w H locs hw hP hD hS => ?_)
  subst hw
  refine lv_aload_n hx hb d_D_sector_23 rfl (lv_at hl 0 rfl) ?_
  refine gf_D_10 (v := .ref (ad 1)) hB hP 0 rfl rfl d_D_sector_24 ?_
  refine lv_iload_n hx hb d_D_sector_27 rfl (lv_at hl 1 rfl) ?_
  refine lv_iconst (v := nI 3) hx hb d_D_sector_28 (by decide) ?_
  refine lv_iload hx hb d_D_sector_29 (lv_at hl 5 rfl) ?_
  refine lv_iconst (v := (-1)) hx hb d_D_sector_31 (by decide) ?_
  have J42 : W p l e (rmn 1) s m ([.ref (ad 0), .int (nI i), .int (nI pl), .int (nI bs), .int (nI ke), .int nu] : List Value).toArray below meth c H locs 0 0 (MQ below (QV D A (fun z => ∃ B1 : Nat → Int32, z = dW cs ad sz cu pw ol nx en rc B1 (upd Rt i (nI 1)) Tp eA eS eN R ∧ (∀ t, ¬ t = i → ∀ j, j < 20 → B1 (20 * t + j) = B (20 * t + j)) ∧ sectH B1 i nx pl bs ke nu rc Tp)) ([.ref (ad 0), .int (nI i), .int (nI pl), .int (nI bs), .int (nI ke), .int nu] : List Value).toArray s 0 0 A) (F0 m 42 ls [.int (if nu = -1 then nI 255 else nI bs), .int (nI 3), .int (nI i), .ref (ad 1)]) := by
    refine x_cQv (As := [.int (nI i), .int (nI 3), .int (if nu = -1 then nI 255 else nI bs)]) (rest := []) (n := 3) hB (c_K_one l (i := i) (j := 3) (v := (if nu = -1 then nI 255 else nI bs)) (by omega)) gi_D_55 (by decide +kernel) rfl rfl ⟨Nat.le_of_ble_eq_true rfl, Nat.le_of_ble_eq_true rfl⟩ hP hD hS 1 rfl rfl hl.1 rfl (Nat.le_of_ble_eq_true rfl) d_D_sector_42 ⟨Nat.le_of_ble_eq_true rfl, Nat.le_of_ble_eq_true rfl⟩ (fun w H locs hw hP hD hS => ?_)
    subst hw
    refine lv_aload_n hx hb d_D_sector_45 rfl (lv_at hl 0 rfl) ?_
    refine gf_D_10 (v := .ref (ad 1)) hB hP 0 rfl rfl d_D_sector_46 ?_
    refine lv_iload_n hx hb d_D_sector_49 rfl (lv_at hl 1 rfl) ?_
    refine lv_iconst (v := nI 4) hx hb d_D_sector_50 (by decide) ?_
    refine lv_iload hx hb d_D_sector_51 (lv_at hl 4 rfl) ?_
    refine x_cQv (As := [.int (nI i), .int (nI 4), .int (nI ke)]) (rest := []) (n := 3) hB (c_K_two l (i := i) (j := 4) (v := nI ke) (by omega)) gi_D_51 (by decide +kernel) rfl rfl ⟨Nat.le_of_ble_eq_true rfl, Nat.le_of_ble_eq_true rfl⟩ hP hD hS 1 rfl rfl hl.1 rfl (Nat.le_of_ble_eq_true rfl) d_D_sector_53 ⟨Nat.le_of_ble_eq_true rfl, Nat.le_of_ble_eq_true rfl⟩ (fun w H locs hw hP hD hS => ?_)
    subst hw
    refine lv_aload_n hx hb d_D_sector_56 rfl (lv_at hl 0 rfl) ?_
    refine gf_D_10 (v := .ref (ad 1)) hB hP 0 rfl rfl d_D_sector_57 ?_
    refine lv_iload_n hx hb d_D_sector_60 rfl (lv_at hl 1 rfl) ?_
    refine lv_bipush (v := nI 6) hx hb d_D_sector_61 (by decide) ?_
    refine lv_aload_n hx hb d_D_sector_63 rfl (lv_at hl 0 rfl) ?_
    refine gf_D_58 (v := .int rc) hB hP 0 rfl rfl d_D_sector_64 ?_
    refine x_cQv (As := [.int (nI i), .int (nI 6), .int rc]) (rest := []) (n := 3) hB (c_K_two l (i := i) (j := 6) (v := rc) (by omega)) gi_D_51 (by decide +kernel) rfl rfl ⟨Nat.le_of_ble_eq_true rfl, Nat.le_of_ble_eq_true rfl⟩ hP hD hS 1 rfl rfl hl.1 rfl (Nat.le_of_ble_eq_true rfl) d_D_sector_67 ⟨Nat.le_of_ble_eq_true rfl, Nat.le_of_ble_eq_true rfl⟩ (fun w H locs hw hP hD hS => ?_)
    subst hw
    refine lv_iconst (v := nI 0) hx hb d_D_sector_70 (by decide) ?_
    refine lv_istore (lv' := [(6, .int (nI 0)), (0, .ref (ad 0)), (1, .int (nI i)), (2, .int (nI pl)), (3, .int (nI bs)), (4, .int (nI ke)), (5, .int nu)]) hx hb d_D_sector_71 hl (by decide) rfl (fun ls hl => ?_)
    have hP : va_P D classes (dW cs ad sz cu pw ol nx en rc (hd5 B i nx pl (if nu = -1 then nI 255 else nI bs) ke rc) Rt Tp eA eS eN R) H := hP
    have hD : va_D A (dW cs ad sz cu pw ol nx en rc (hd5 B i nx pl (if nu = -1 then nI 255 else nI bs) ke rc) Rt Tp eA eS eN R) := hD
    have loop : ∀ (n : Nat) (k : Nat) (b : Nat → Int32), (k ≤ 12) → (∀ z, (z < 20 * i + 8 ∨ 20 * i + 20 ≤ z) → b z = hd5 B i nx pl (if nu = -1 then nI 255 else nI bs) ke rc z) → (∀ j, j < k → 12 * pl + j < bs → b (20 * i + 8 + j) = (Tp (12 * pl + j)).toInt8.toInt32) → (12 + 1 ≤ k + n) → ∀ (H : Heap) (locs : List Loc), va_P D classes (dW cs ad sz cu pw ol nx en rc b Rt Tp eA eS eN R) H → va_D A (dW cs ad sz cu pw ol nx en rc b Rt Tp eA eS eN R) → va_S A s.heap H locs → ∀ ls : Array Slot, lv_has ls 7 [(0, .ref (ad 0)), (1, .int (nI i)), (2, .int (nI pl)), (3, .int (nI bs)), (4, .int (nI ke)), (5, .int nu), (6, .int (nI k))] → W p l e (rmn 1) s m ([.ref (ad 0), .int (nI i), .int (nI pl), .int (nI bs), .int (nI ke), .int nu] : List Value).toArray below meth c H locs 0 0 (MQ below (QV D A (fun z => ∃ B1 : Nat → Int32, z = dW cs ad sz cu pw ol nx en rc B1 (upd Rt i (nI 1)) Tp eA eS eN R ∧ (∀ t, ¬ t = i → ∀ j, j < 20 → B1 (20 * t + j) = B (20 * t + j)) ∧ sectH B1 i nx pl bs ke nu rc Tp)) ([.ref (ad 0), .int (nI i), .int (nI pl), .int (nI bs), .int (nI ke), .int nu] : List Value).toArray s 0 0 A) (F0 m 73 ls []) := by
      intro n
      induction n with
      | zero => intro k b hk12 hf1 hf2 hm; exfalso; omega
      | succ n ih =>
        intro k b hk12 hf1 hf2 hm H locs hP hD hS ls hl
        refine lv_iload hx hb d_D_sector_73 (lv_at hl 6 rfl) ?_
        refine lv_bipush (v := nI 12) hx hb d_D_sector_75 (by decide) ?_
        refine n_icmp_ge hx hb (by omega) (by omega) (tgt := 122) d_D_sector_77 (by decide) (fun hc77 => ?_) (fun hc77 => ?_)
        · skip
          refine lv_aload_n hx hb d_D_sector_122 rfl (lv_at hl 0 rfl) ?_
          refine gf_D_10 (v := .ref (ad 1)) hB hP 0 rfl rfl d_D_sector_123 ?_
          refine gf_D_61 (v := .ref (ad 3)) hB hP 1 rfl rfl d_D_sector_126 ?_
          refine lv_iload_n hx hb d_D_sector_129 rfl (lv_at hl 1 rfl) ?_
          refine lv_iconst (v := nI 1) hx hb d_D_sector_130 (by decide) ?_
          refine n_zast hx hb hK hP hD hS 3 1 rfl rfl (by decide) (by omega) (by decide) d_D_sector_131 (fun H locs hP hD hS => ?_)
          have hP : va_P D classes (dW cs ad sz cu pw ol nx en rc b (upd Rt i (nI 1)) Tp eA eS eN R) H := hP
          have hD : va_D A (dW cs ad sz cu pw ol nx en rc b (upd Rt i (nI 1)) Tp eA eS eN R) := hD
          exact r_vQ hB hr0 hlk hP hD hS ⟨b, rfl, fun t ht j hj => by rw [hf1 _ (by omega), hd5_n (by omega)], hd5_ok hx2 hp hk2 (by omega) hq hrc rfl (fun z hz => hf1 z (by omega)) (fun j hj hb => hf2 j (by omega) hb)⟩ d_D_sector_132
        · skip
          refine lv_bipush (v := nI 12) hx hb d_D_sector_80 (by decide) ?_
          refine lv_iload_n hx hb d_D_sector_82 rfl (lv_at hl 2 rfl) ?_
          refine n_mul hx hb d_D_sector_83 ?_
          refine lv_iload hx hb d_D_sector_84 (lv_at hl 6 rfl) ?_
          refine n_add hx hb d_D_sector_86 ?_
          refine lv_iload_n hx hb d_D_sector_87 rfl (lv_at hl 3 rfl) ?_
          refine n_icmp_ge hx hb (by omega) (by omega) (tgt := 122) d_D_sector_88 (by decide) (fun hc88 => ?_) (fun hc88 => ?_)
          · skip
            refine lv_aload_n hx hb d_D_sector_122 rfl (lv_at hl 0 rfl) ?_
            refine gf_D_10 (v := .ref (ad 1)) hB hP 0 rfl rfl d_D_sector_123 ?_
            refine gf_D_61 (v := .ref (ad 3)) hB hP 1 rfl rfl d_D_sector_126 ?_
            refine lv_iload_n hx hb d_D_sector_129 rfl (lv_at hl 1 rfl) ?_
            refine lv_iconst (v := nI 1) hx hb d_D_sector_130 (by decide) ?_
            refine n_zast hx hb hK hP hD hS 3 1 rfl rfl (by decide) (by omega) (by decide) d_D_sector_131 (fun H locs hP hD hS => ?_)
            have hP : va_P D classes (dW cs ad sz cu pw ol nx en rc b (upd Rt i (nI 1)) Tp eA eS eN R) H := hP
            have hD : va_D A (dW cs ad sz cu pw ol nx en rc b (upd Rt i (nI 1)) Tp eA eS eN R) := hD
            exact r_vQ hB hr0 hlk hP hD hS ⟨b, rfl, fun t ht j hj => by rw [hf1 _ (by omega), hd5_n (by omega)], hd5_ok hx2 hp hk2 (by omega) hq hrc rfl (fun z hz => hf1 z (by omega)) (fun j hj hb => hf2 j (by omega) hb)⟩ d_D_sector_132
          · skip
            refine lv_aload_n hx hb d_D_sector_91 rfl (lv_at hl 0 rfl) ?_
            refine gf_D_10 (v := .ref (ad 1)) hB hP 0 rfl rfl d_D_sector_92 ?_
            refine lv_iload_n hx hb d_D_sector_95 rfl (lv_at hl 1 rfl) ?_
            refine lv_bipush (v := nI 8) hx hb d_D_sector_96 (by decide) ?_
            refine lv_iload hx hb d_D_sector_98 (lv_at hl 6 rfl) ?_
            refine n_add hx hb d_D_sector_100 ?_
            refine lv_aload_n hx hb d_D_sector_101 rfl (lv_at hl 0 rfl) ?_
            refine gf_D_16 (v := .ref (ad 4)) hB hP 0 rfl rfl d_D_sector_102 ?_
            refine lv_bipush (v := nI 12) hx hb d_D_sector_105 (by decide) ?_
            refine lv_iload_n hx hb d_D_sector_107 rfl (lv_at hl 2 rfl) ?_
            refine n_mul hx hb d_D_sector_108 ?_
            refine lv_iload hx hb d_D_sector_109 (lv_at hl 6 rfl) ?_
            refine n_add hx hb d_D_sector_111 ?_
            refine n_bald hx hb hK hP 4 0 rfl rfl (by omega) (by decide) d_D_sector_112 ?_
            refine x_cQv (As := [.int (nI i), .int (nI (8 + k)), .int (Tp ((12 * pl) + k))]) (rest := []) (n := 3) hB (c_K_one l (i := i) (j := 8 + k) (v := Tp (12 * pl + k)) (by omega)) gi_D_55 (by decide +kernel) rfl rfl ⟨Nat.le_of_ble_eq_true rfl, Nat.le_of_ble_eq_true rfl⟩ hP hD hS 1 rfl rfl hl.1 rfl (Nat.le_of_ble_eq_true rfl) d_D_sector_113 ⟨Nat.le_of_ble_eq_true rfl, Nat.le_of_ble_eq_true rfl⟩ (fun w H locs hw hP hD hS => ?_)
            subst hw
            refine n_inc (d := 1) (k := 6) (lv' := [(6, .int (nI (k + 1))), (0, .ref (ad 0)), (1, .int (nI i)), (2, .int (nI pl)), (3, .int (nI bs)), (4, .int (nI ke)), (5, .int nu)]) hx hb d_D_sector_116 (by decide) hl rfl (by decide) rfl (fun ls hl => ?_)
            refine lv_goto (tgt := 73) hx hb d_D_sector_119 (by decide) ?_
            exact ih (k + 1) (w1 b (20 * i + (8 + k)) (Tp (12 * pl + k))) (by omega) (fun z hz => by rw [w1_n (by omega)]; exact hf1 z hz) (fun j hj hb => by
                by_cases e : j = k
                · subst e; rw [Nat.add_assoc (20 * i) 8 j, w1_s]
                · rw [w1_n (by omega)]; exact hf2 j (by omega) hb) (by omega) _ _ hP hD hS ls (lv_sub hl [1, 2, 3, 4, 5, 6, 0] rfl)
    exact loop 13 0 (hd5 B i nx pl (if nu = -1 then nI 255 else nI bs) ke rc) (by omega) (fun _ _ => rfl) (fun j hj => absurd hj (Nat.not_lt_zero j)) (by omega) _ _ hP hD hS ls (lv_sub hl [1, 2, 3, 4, 5, 6, 0] rfl)
  refine lv_icmp_ne (tgt := 41) hx hb d_D_sector_32 (by decide) (fun hc32 => ?_) (fun hc32 => ?_)
  · skip
    refine lv_iload_n hx hb d_D_sector_41 rfl (lv_at hl 3 rfl) ?_
    exact tp_i (by rw [if_neg hc32]) J42
  · skip
    refine lv_sipush (v := nI 255) hx hb d_D_sector_35 (by decide) ?_
    refine lv_goto (tgt := 42) hx hb d_D_sector_38 (by decide) ?_
    exact tp_i (by rw [if_pos hc32]) J42
set_option maxHeartbeats 4000000 in
set_option maxRecDepth 100000 in
/-- an entry is written, and is whole -/
theorem c_D_append (l : Launch) {D : va_G} {A : Nat → Prop} {cs : Nat → ClassId} {ad : Nat → Nat} {sz : Nat} {cu pw : Int32} {ol nx en : Nat} {rc : Int32} {B Rt Tp : Nat → Int32} {eA eS : Nat → Nat} {eN : Nat → Int32} {R : va_W} {bs ke q rq : Nat} {nu : Int32} (hn : nx < 520) (he : en < 40) (hb2 : bs ≤ 100) (hk2 : ke < 65536) (hrq : rq < 65536) (hrc : rc = nI rq) : Met l y_D_append (Cond.code y_D_append b_D_append 9 (some .boolean) :: gw) (rmn 2) (va_Pc [.ref (ad 0), .int (nI bs), .int (nI ke), .int nu] (St D cs A (dW cs ad sz (-1) pw ol nx en rc B Rt Tp eA eS eN R))) (QI D A (fun r z => r = 1 ∧ ∃ B1 R1 : Nat → Int32, z = dW cs ad sz (-1) pw ol (nx + 1) ((en + nd bs) % 40) rc B1 R1 Tp (va_up eA nx en) (va_up eS nx bs) (va_up eN nx nu) R ∧ wrote B Rt B1 R1 en nx (nd bs) bs ke nu rc Tp)) 0 0 A := by
  refine x_start (by decide) (Nat.le_of_ble_eq_true rfl) ?_
  intro p e s m below meth c hB hr hlk hin hP hD ls hl
  have hx := hB.1
  have hb := hB.2.1
  have hown := hB.2.2.2.1
  have hts := hB.2.2.2.2.1
  have hK := hB.2.2.2.2.2.1
  have hS : va_S A s.heap s.heap [] := va_S.rf
  have hl : lv_has ls 9 [(0, .ref (ad 0)), (1, .int (nI bs)), (2, .int (nI ke)), (3, .int nu)] := hl
  have hr0 := hr
  have hnd := nd_le hb2
  have hnp := nd_pos bs
  refine lv_aload_n hx hb d_D_append_0 rfl (lv_at hl 0 rfl) ?_
  refine gf_D_30 (v := .ref (ad 5)) hB hP 0 rfl rfl d_D_append_1 ?_
  refine lv_aload_n hx hb d_D_append_4 rfl (lv_at hl 0 rfl) ?_
  refine gf_D_41 (v := .int (nI nx)) hB hP 0 rfl rfl d_D_append_5 ?_
  refine n_aldq (f := fun j => ad (j + 6)) hx hb hK hP 5 2 rfl rfl (by omega) (by decide) d_D_append_8 ?_
  refine W.eq (g2 := F0 m 9 ls [.ref (ad (nx + 6))]) rfl ?_
  refine lv_astore (lv' := [(4, .ref (ad (nx + 6))), (0, .ref (ad 0)), (1, .int (nI bs)), (2, .int (nI ke)), (3, .int nu)]) hx hb d_D_append_9 hl (by decide) rfl (fun ls hl => ?_)
  refine lv_aload hx hb d_D_append_11 (lv_at hl 0 rfl) ?_
  refine lv_aload_n hx hb d_D_append_13 rfl (lv_at hl 1 rfl) ?_
  refine gf_D_65 (v := .int (nI en)) hB hP 0 rfl rfl d_D_append_14 ?_
  refine pf_D_68 hB hP hD hS (nx + 6) (dW_e (by omega)) (Nat.le_of_ble_eq_true rfl) d_D_append_17 (fun H locs hP hD hS => ?_)
  rw [dW_setA (by omega)] at hP hD
  have hP : va_P D classes (dW cs ad sz (-1) pw ol nx en rc B Rt Tp (va_up eA nx en) eS eN R) H := hP
  have hD : va_D A (dW cs ad sz (-1) pw ol nx en rc B Rt Tp (va_up eA nx en) eS eN R) := hD
  refine lv_aload hx hb d_D_append_20 (lv_at hl 0 rfl) ?_
  refine lv_iload_n hx hb d_D_append_22 rfl (lv_at hl 2 rfl) ?_
  refine pf_D_71 hB hP hD hS (nx + 6) (dW_e (by omega)) (Nat.le_of_ble_eq_true rfl) d_D_append_23 (fun H locs hP hD hS => ?_)
  rw [dW_setS (by omega)] at hP hD
  have hP : va_P D classes (dW cs ad sz (-1) pw ol nx en rc B Rt Tp (va_up eA nx en) (va_up eS nx bs) eN R) H := hP
  have hD : va_D A (dW cs ad sz (-1) pw ol nx en rc B Rt Tp (va_up eA nx en) (va_up eS nx bs) eN R) := hD
  refine lv_aload hx hb d_D_append_26 (lv_at hl 0 rfl) ?_
  refine lv_iload_n hx hb d_D_append_28 rfl (lv_at hl 4 rfl) ?_
  refine pf_D_48 hB hP hD hS (nx + 6) (dW_e (by omega)) (Nat.le_of_ble_eq_true rfl) d_D_append_29 (fun H locs hP hD hS => ?_)
  rw [dW_setN (by omega)] at hP hD
  have hP : va_P D classes (dW cs ad sz (-1) pw ol nx en rc B Rt Tp (va_up eA nx en) (va_up eS nx bs) (va_up eN nx nu) R) H := hP
  have hD : va_D A (dW cs ad sz (-1) pw ol nx en rc B Rt Tp (va_up eA nx en) (va_up eS nx bs) (va_up eN nx nu) R) := hD
  refine lv_aload hx hb d_D_append_32 (lv_at hl 0 rfl) ?_
  refine x_cSi (As := []) (rest := []) (n := 0) hB (c_E_need l (k := nx) hn (by rw [va_up_self]; omega)) gi_D_44 (by decide +kernel) rfl rfl ⟨Nat.le_of_ble_eq_true rfl, Nat.le_of_ble_eq_true rfl⟩ hP hD (nx + 6) (dW_e (by omega)) rfl hl.1 rfl (Nat.le_of_ble_eq_true rfl) d_D_append_34 ⟨Nat.le_of_ble_eq_true rfl, Nat.le_of_ble_eq_true rfl⟩ (fun r hr => ?_)
  subst hr
  refine tp_i (y := nI (nd bs)) (by rw [va_up_self]) ?_
  refine lv_istore (lv' := [(5, .int (nI (nd bs))), (4, .ref (ad (nx + 6))), (0, .ref (ad 0)), (1, .int (nI bs)), (2, .int (nI ke)), (3, .int nu)]) hx hb d_D_append_37 hl (by decide) rfl (fun ls hl => ?_)
  refine lv_aload_n hx hb d_D_append_39 rfl (lv_at hl 2 rfl) ?_
  refine gf_D_20 (v := .int (-1)) hB hP 0 rfl rfl d_D_append_40 ?_
  refine lv_iconst (v := (-1)) hx hb d_D_append_43 (by decide) ?_
  refine lv_icmp_eq (tgt := 51) hx hb d_D_append_44 (by decide) (fun hc44 => ?_) (fun hc44 => (absurd rfl hc44))
  refine lv_iconst (v := nI 0) hx hb d_D_append_51 (by decide) ?_
  refine lv_istore (lv' := [(6, .int (nI 0)), (5, .int (nI (nd bs))), (4, .ref (ad (nx + 6))), (0, .ref (ad 0)), (1, .int (nI bs)), (2, .int (nI ke)), (3, .int nu)]) hx hb d_D_append_52 hl (by decide) rfl (fun ls hl => ?_)
  refine lv_iload hx hb d_D_append_54 (lv_at hl 0 rfl) ?_
  refine n_if_eq hx hb (by omega) (tgt := 73) d_D_append_56 (by decide) (fun _ => ?_) (fun h => absurd h (by decide))
  refine lv_iload hx hb d_D_append_73 (lv_at hl 1 rfl) ?_
  refine lv_istore (lv' := [(7, .int (nI (nd bs))), (6, .int (nI 0)), (5, .int (nI (nd bs))), (4, .ref (ad (nx + 6))), (0, .ref (ad 0)), (1, .int (nI bs)), (2, .int (nI ke)), (3, .int nu)]) hx hb d_D_append_75 hl (by decide) rfl (fun ls hl => ?_)
  refine lv_iconst (v := nI 0) hx hb d_D_append_77 (by decide) ?_
  refine lv_istore (lv' := [(8, .int (nI 0)), (7, .int (nI (nd bs))), (6, .int (nI 0)), (5, .int (nI (nd bs))), (4, .ref (ad (nx + 6))), (0, .ref (ad 0)), (1, .int (nI bs)), (2, .int (nI ke)), (3, .int nu)]) hx hb d_D_append_78 hl (by decide) rfl (fun ls hl => ?_)
  have loop : ∀ (n : Nat) (k : Nat) (b : Nat → Int32) (t1 : Nat → Int32), (k ≤ (nd bs)) → (wrote B Rt b t1 en nx k bs ke nu rc Tp) → ((nd bs) + 1 ≤ k + n) → ∀ (H : Heap) (locs : List Loc), va_P D classes (dW cs ad sz (-1) pw ol nx en rc b t1 Tp (va_up eA nx en) (va_up eS nx bs) (va_up eN nx nu) R) H → va_D A (dW cs ad sz (-1) pw ol nx en rc b t1 Tp (va_up eA nx en) (va_up eS nx bs) (va_up eN nx nu) R) → va_S A s.heap H locs → ∀ ls : Array Slot, lv_has ls 9 [(0, .ref (ad 0)), (1, .int (nI bs)), (2, .int (nI ke)), (3, .int nu), (5, .int (nI (nd bs))), (6, .int (nI 0)), (7, .int (nI (nd bs))), (8, .int (nI k))] → W p l e (rmn 2) s m ([.ref (ad 0), .int (nI bs), .int (nI ke), .int nu] : List Value).toArray below meth c H locs 0 0 (MQ below (QI D A (fun r z => r = 1 ∧ ∃ B1 R1 : Nat → Int32, z = dW cs ad sz (-1) pw ol (nx + 1) ((en + nd bs) % 40) rc B1 R1 Tp (va_up eA nx en) (va_up eS nx bs) (va_up eN nx nu) R ∧ wrote B Rt B1 R1 en nx (nd bs) bs ke nu rc Tp)) ([.ref (ad 0), .int (nI bs), .int (nI ke), .int nu] : List Value).toArray s 0 0 A) (F0 m 80 ls []) := by
    intro n
    induction n with
    | zero => intro k b t1 hkw0 hwr hm; exfalso; omega
    | succ n ih =>
      intro k b t1 hkw0 hwr hm H locs hP hD hS ls hl
      refine lv_iload hx hb d_D_append_80 (lv_at hl 7 rfl) ?_
      refine lv_iload hx hb d_D_append_82 (lv_at hl 6 rfl) ?_
      refine n_icmp_ge hx hb (by omega) (by omega) (tgt := 112) d_D_append_84 (by decide) (fun hc84 => ?_) (fun hc84 => ?_)
      · skip
        have hkw : k = (nd bs) := by omega
        subst hkw
        refine lv_aload_n hx hb d_D_append_112 rfl (lv_at hl 0 rfl) ?_
        refine lv_iconst (v := (-1)) hx hb d_D_append_113 (by decide) ?_
        refine pf_D_20 hB hP hD hS 0 rfl (Nat.le_of_ble_eq_true rfl) d_D_append_114 (fun H locs hP hD hS => ?_)
        have hP : va_P D classes (dW cs ad sz (-1) pw ol nx en rc b t1 Tp (va_up eA nx en) (va_up eS nx bs) (va_up eN nx nu) R) H := hP
        have hD : va_D A (dW cs ad sz (-1) pw ol nx en rc b t1 Tp (va_up eA nx en) (va_up eS nx bs) (va_up eN nx nu) R) := hD
        refine lv_iload hx hb d_D_append_117 (lv_at hl 5 rfl) ?_
        refine n_if_eq hx hb (by omega) (tgt := 148) d_D_append_119 (by decide) (fun _ => ?_) (fun h => absurd h (by decide))
        refine lv_aload_n hx hb d_D_append_148 rfl (lv_at hl 0 rfl) ?_
        refine lv_aload_n hx hb d_D_append_149 rfl (lv_at hl 0 rfl) ?_
        refine gf_D_65 (v := .int (nI en)) hB hP 0 rfl rfl d_D_append_150 ?_
        refine lv_iload hx hb d_D_append_153 (lv_at hl 4 rfl) ?_
        refine n_add hx hb d_D_append_155 ?_
        refine lv_bipush (v := nI 40) hx hb d_D_append_156 (by decide) ?_
        refine n_rem hx hb (by omega) (by decide) (by decide) d_D_append_158 ?_
        refine pf_D_65 hB hP hD hS 0 rfl (Nat.le_of_ble_eq_true rfl) d_D_append_159 (fun H locs hP hD hS => ?_)
        have hP : va_P D classes (dW cs ad sz (-1) pw ol nx ((en + (nd bs)) % 40) rc b t1 Tp (va_up eA nx en) (va_up eS nx bs) (va_up eN nx nu) R) H := hP
        have hD : va_D A (dW cs ad sz (-1) pw ol nx ((en + (nd bs)) % 40) rc b t1 Tp (va_up eA nx en) (va_up eS nx bs) (va_up eN nx nu) R) := hD
        refine lv_aload_n hx hb d_D_append_162 rfl (lv_at hl 0 rfl) ?_
        refine lv_dup hx hb d_D_append_163 rfl ?_
        refine gf_D_41 (v := .int (nI nx)) hB hP 0 rfl rfl d_D_append_164 ?_
        refine lv_iconst (v := nI 1) hx hb d_D_append_167 (by decide) ?_
        refine n_add hx hb d_D_append_168 ?_
        refine pf_D_41 hB hP hD hS 0 rfl (Nat.le_of_ble_eq_true rfl) d_D_append_169 (fun H locs hP hD hS => ?_)
        have hP : va_P D classes (dW cs ad sz (-1) pw ol (nx + 1) ((en + (nd bs)) % 40) rc b t1 Tp (va_up eA nx en) (va_up eS nx bs) (va_up eN nx nu) R) H := hP
        have hD : va_D A (dW cs ad sz (-1) pw ol (nx + 1) ((en + (nd bs)) % 40) rc b t1 Tp (va_up eA nx en) (va_up eS nx bs) (va_up eN nx nu) R) := hD
        refine lv_iconst (v := nI 1) hx hb d_D_append_172 (by decide) ?_
        exact r_zQ hB hr0 hlk (by decide) hP hD hS ⟨rfl, b, t1, rfl, hwr⟩ d_D_append_173
      · skip
        refine lv_aload_n hx hb d_D_append_87 rfl (lv_at hl 0 rfl) ?_
        refine lv_aload_n hx hb d_D_append_88 rfl (lv_at hl 0 rfl) ?_
        refine gf_D_65 (v := .int (nI en)) hB hP 0 rfl rfl d_D_append_89 ?_
        refine lv_iload hx hb d_D_append_92 (lv_at hl 7 rfl) ?_
        refine n_add hx hb d_D_append_94 ?_
        refine lv_bipush (v := nI 40) hx hb d_D_append_95 (by decide) ?_
        refine n_rem hx hb (by omega) (by decide) (by decide) d_D_append_97 ?_
        refine lv_iload hx hb d_D_append_98 (lv_at hl 7 rfl) ?_
        refine lv_iload_n hx hb d_D_append_100 rfl (lv_at hl 1 rfl) ?_
        refine lv_iload_n hx hb d_D_append_101 rfl (lv_at hl 2 rfl) ?_
        refine lv_iload_n hx hb d_D_append_102 rfl (lv_at hl 3 rfl) ?_
        refine x_cQv (As := [.int (nI ((en + k) % 40)), .int (nI k), .int (nI bs), .int (nI ke), .int nu]) (rest := []) (n := 5) hB (c_D_sector l (i := (en + k) % 40) (pl := k) (q := rq) (by omega) (by omega) hb2 (by omega) hk2 hrq hrc) gi_D_78 (by decide +kernel) rfl rfl ⟨Nat.le_of_ble_eq_true rfl, Nat.le_of_ble_eq_true rfl⟩ hP hD hS 0 rfl rfl hl.1 rfl (Nat.le_of_ble_eq_true rfl) d_D_append_103 ⟨Nat.le_of_ble_eq_true rfl, Nat.le_of_ble_eq_true rfl⟩ (fun w H locs hw hP hD hS => ?_)
        obtain ⟨b2, rfl, hfr, hsc⟩ := hw
        refine n_inc (d := 1) (k := 7) (lv' := [(8, .int (nI (k + 1))), (0, .ref (ad 0)), (1, .int (nI bs)), (2, .int (nI ke)), (3, .int nu), (5, .int (nI (nd bs))), (6, .int (nI 0)), (7, .int (nI (nd bs)))]) hx hb d_D_append_106 (by decide) hl rfl (by decide) rfl (fun ls hl => ?_)
        refine lv_goto (tgt := 80) hx hb d_D_append_109 (by decide) ?_
        exact ih (k + 1) b2 (upd t1 ((en + k) % 40) (nI 1)) (by omega) (wrote_s hwr (by omega) hfr hsc) (by omega) _ _ hP hD hS ls (lv_sub hl [1, 2, 3, 4, 5, 6, 7, 0] rfl)
  exact loop ((nd bs) + 1) 0 B Rt (by omega) wrote_0 (by omega) _ _ hP hD hS ls (lv_sub hl [5, 6, 7, 8, 3, 2, 1, 0] rfl)
set_option maxHeartbeats 4000000 in
set_option maxRecDepth 100000 in
/-- an entry is written, and the power goes -/
theorem c_D_appendC (l : Launch) {D : va_G} {A : Nat → Prop} {cs : Nat → ClassId} {ad : Nat → Nat} {sz : Nat} {cu pw : Int32} {ol nx en : Nat} {rc : Int32} {B Rt Tp : Nat → Int32} {eA eS : Nat → Nat} {eN : Nat → Int32} {R : va_W} {bs ke q rq : Nat} {nu : Int32} (hn : nx < 520) (he : en < 40) (hb2 : bs ≤ 100) (hk2 : ke < 65536) (hrq : rq < 65536) (hrc : rc = nI rq) (hq : q ≤ 8) : Met l y_D_append (Cond.code y_D_append b_D_append 9 (some .boolean) :: gw) (rmn 2) (va_Pc [.ref (ad 0), .int (nI bs), .int (nI ke), .int nu] (St D cs A (dW cs ad sz (nI q) pw ol nx en rc B Rt Tp eA eS eN R))) (QI D A (fun r z => r = 0 ∧ ∃ B1 R1 : Nat → Int32, z = dW cs ad sz (-1) (nI 0) ol nx en rc B1 (upd R1 ((en + (min q (nd bs - 1))) % 40) (nI 0)) Tp (va_up eA nx en) (va_up eS nx bs) (va_up eN nx nu) R ∧ wrote B Rt B1 R1 en nx (min q (nd bs - 1)) bs ke nu rc Tp)) 0 0 A := by
  refine x_start (by decide) (Nat.le_of_ble_eq_true rfl) ?_
  intro p e s m below meth c hB hr hlk hin hP hD ls hl
  have hx := hB.1
  have hb := hB.2.1
  have hown := hB.2.2.2.1
  have hts := hB.2.2.2.2.1
  have hK := hB.2.2.2.2.2.1
  have hS : va_S A s.heap s.heap [] := va_S.rf
  have hl : lv_has ls 9 [(0, .ref (ad 0)), (1, .int (nI bs)), (2, .int (nI ke)), (3, .int nu)] := hl
  have hr0 := hr
  have hnd := nd_le hb2
  have hnp := nd_pos bs
  refine lv_aload_n hx hb d_D_append_0 rfl (lv_at hl 0 rfl) ?_
  refine gf_D_30 (v := .ref (ad 5)) hB hP 0 rfl rfl d_D_append_1 ?_
  refine lv_aload_n hx hb d_D_append_4 rfl (lv_at hl 0 rfl) ?_
  refine gf_D_41 (v := .int (nI nx)) hB hP 0 rfl rfl d_D_append_5 ?_
  refine n_aldq (f := fun j => ad (j + 6)) hx hb hK hP 5 2 rfl rfl (by omega) (by decide) d_D_append_8 ?_
  refine W.eq (g2 := F0 m 9 ls [.ref (ad (nx + 6))]) rfl ?_
  refine lv_astore (lv' := [(4, .ref (ad (nx + 6))), (0, .ref (ad 0)), (1, .int (nI bs)), (2, .int (nI ke)), (3, .int nu)]) hx hb d_D_append_9 hl (by decide) rfl (fun ls hl => ?_)
  refine lv_aload hx hb d_D_append_11 (lv_at hl 0 rfl) ?_
  refine lv_aload_n hx hb d_D_append_13 rfl (lv_at hl 1 rfl) ?_
  refine gf_D_65 (v := .int (nI en)) hB hP 0 rfl rfl d_D_append_14 ?_
  refine pf_D_68 hB hP hD hS (nx + 6) (dW_e (by omega)) (Nat.le_of_ble_eq_true rfl) d_D_append_17 (fun H locs hP hD hS => ?_)
  rw [dW_setA (by omega)] at hP hD
  have hP : va_P D classes (dW cs ad sz (nI q) pw ol nx en rc B Rt Tp (va_up eA nx en) eS eN R) H := hP
  have hD : va_D A (dW cs ad sz (nI q) pw ol nx en rc B Rt Tp (va_up eA nx en) eS eN R) := hD
  refine lv_aload hx hb d_D_append_20 (lv_at hl 0 rfl) ?_
  refine lv_iload_n hx hb d_D_append_22 rfl (lv_at hl 2 rfl) ?_
  refine pf_D_71 hB hP hD hS (nx + 6) (dW_e (by omega)) (Nat.le_of_ble_eq_true rfl) d_D_append_23 (fun H locs hP hD hS => ?_)
  rw [dW_setS (by omega)] at hP hD
  have hP : va_P D classes (dW cs ad sz (nI q) pw ol nx en rc B Rt Tp (va_up eA nx en) (va_up eS nx bs) eN R) H := hP
  have hD : va_D A (dW cs ad sz (nI q) pw ol nx en rc B Rt Tp (va_up eA nx en) (va_up eS nx bs) eN R) := hD
  refine lv_aload hx hb d_D_append_26 (lv_at hl 0 rfl) ?_
  refine lv_iload_n hx hb d_D_append_28 rfl (lv_at hl 4 rfl) ?_
  refine pf_D_48 hB hP hD hS (nx + 6) (dW_e (by omega)) (Nat.le_of_ble_eq_true rfl) d_D_append_29 (fun H locs hP hD hS => ?_)
  rw [dW_setN (by omega)] at hP hD
  have hP : va_P D classes (dW cs ad sz (nI q) pw ol nx en rc B Rt Tp (va_up eA nx en) (va_up eS nx bs) (va_up eN nx nu) R) H := hP
  have hD : va_D A (dW cs ad sz (nI q) pw ol nx en rc B Rt Tp (va_up eA nx en) (va_up eS nx bs) (va_up eN nx nu) R) := hD
  refine lv_aload hx hb d_D_append_32 (lv_at hl 0 rfl) ?_
  refine x_cSi (As := []) (rest := []) (n := 0) hB (c_E_need l (k := nx) hn (by rw [va_up_self]; omega)) gi_D_44 (by decide +kernel) rfl rfl ⟨Nat.le_of_ble_eq_true rfl, Nat.le_of_ble_eq_true rfl⟩ hP hD (nx + 6) (dW_e (by omega)) rfl hl.1 rfl (Nat.le_of_ble_eq_true rfl) d_D_append_34 ⟨Nat.le_of_ble_eq_true rfl, Nat.le_of_ble_eq_true rfl⟩ (fun r hr => ?_)
  subst hr
  refine tp_i (y := nI (nd bs)) (by rw [va_up_self]) ?_
  refine lv_istore (lv' := [(5, .int (nI (nd bs))), (4, .ref (ad (nx + 6))), (0, .ref (ad 0)), (1, .int (nI bs)), (2, .int (nI ke)), (3, .int nu)]) hx hb d_D_append_37 hl (by decide) rfl (fun ls hl => ?_)
  refine lv_aload_n hx hb d_D_append_39 rfl (lv_at hl 2 rfl) ?_
  refine gf_D_20 (v := .int (nI q)) hB hP 0 rfl rfl d_D_append_40 ?_
  refine lv_iconst (v := (-1)) hx hb d_D_append_43 (by decide) ?_
  refine lv_icmp_eq (tgt := 51) hx hb d_D_append_44 (by decide) (fun hc44 => (absurd hc44 (nI_nm1 (by omega)))) (fun hc44 => ?_)
  refine lv_iconst (v := nI 1) hx hb d_D_append_47 (by decide) ?_
  refine lv_goto (tgt := 52) hx hb d_D_append_48 (by decide) ?_
  refine lv_istore (lv' := [(6, .int (nI 1)), (5, .int (nI (nd bs))), (4, .ref (ad (nx + 6))), (0, .ref (ad 0)), (1, .int (nI bs)), (2, .int (nI ke)), (3, .int nu)]) hx hb d_D_append_52 hl (by decide) rfl (fun ls hl => ?_)
  refine lv_iload hx hb d_D_append_54 (lv_at hl 0 rfl) ?_
  refine n_if_eq hx hb (by omega) (tgt := 73) d_D_append_56 (by decide) (fun h => absurd h (by decide)) (fun _ => ?_)
  refine lv_aload_n hx hb d_D_append_59 rfl (lv_at hl 3 rfl) ?_
  refine gf_D_20 (v := .int (nI q)) hB hP 0 rfl rfl d_D_append_60 ?_
  refine lv_iload hx hb d_D_append_63 (lv_at hl 1 rfl) ?_
  refine lv_iconst (v := nI 1) hx hb d_D_append_65 (by decide) ?_
  refine n_sub hx hb (by omega) d_D_append_66 ?_
  refine x_min hB mm_D_min hl.1 (Nat.le_of_ble_eq_true rfl) (Nat.le_of_ble_eq_true rfl) (Nat.le_of_ble_eq_true rfl) (Nat.le_of_ble_eq_true rfl) (by omega) (by omega) d_D_append_67 ?_
  refine lv_goto (tgt := 75) hx hb d_D_append_70 (by decide) ?_
  refine lv_istore (lv' := [(7, .int (nI (min q ((nd bs) - 1)))), (6, .int (nI 1)), (5, .int (nI (nd bs))), (4, .ref (ad (nx + 6))), (0, .ref (ad 0)), (1, .int (nI bs)), (2, .int (nI ke)), (3, .int nu)]) hx hb d_D_append_75 hl (by decide) rfl (fun ls hl => ?_)
  refine lv_iconst (v := nI 0) hx hb d_D_append_77 (by decide) ?_
  refine lv_istore (lv' := [(8, .int (nI 0)), (7, .int (nI (min q ((nd bs) - 1)))), (6, .int (nI 1)), (5, .int (nI (nd bs))), (4, .ref (ad (nx + 6))), (0, .ref (ad 0)), (1, .int (nI bs)), (2, .int (nI ke)), (3, .int nu)]) hx hb d_D_append_78 hl (by decide) rfl (fun ls hl => ?_)
  have loop : ∀ (n : Nat) (k : Nat) (b : Nat → Int32) (t1 : Nat → Int32), (k ≤ (min q (nd bs - 1))) → (wrote B Rt b t1 en nx k bs ke nu rc Tp) → ((min q (nd bs - 1)) + 1 ≤ k + n) → ∀ (H : Heap) (locs : List Loc), va_P D classes (dW cs ad sz (nI q) pw ol nx en rc b t1 Tp (va_up eA nx en) (va_up eS nx bs) (va_up eN nx nu) R) H → va_D A (dW cs ad sz (nI q) pw ol nx en rc b t1 Tp (va_up eA nx en) (va_up eS nx bs) (va_up eN nx nu) R) → va_S A s.heap H locs → ∀ ls : Array Slot, lv_has ls 9 [(0, .ref (ad 0)), (1, .int (nI bs)), (2, .int (nI ke)), (3, .int nu), (5, .int (nI (nd bs))), (6, .int (nI 1)), (7, .int (nI (min q (nd bs - 1)))), (8, .int (nI k))] → W p l e (rmn 2) s m ([.ref (ad 0), .int (nI bs), .int (nI ke), .int nu] : List Value).toArray below meth c H locs 0 0 (MQ below (QI D A (fun r z => r = 0 ∧ ∃ B1 R1 : Nat → Int32, z = dW cs ad sz (-1) (nI 0) ol nx en rc B1 (upd R1 ((en + (min q (nd bs - 1))) % 40) (nI 0)) Tp (va_up eA nx en) (va_up eS nx bs) (va_up eN nx nu) R ∧ wrote B Rt B1 R1 en nx (min q (nd bs - 1)) bs ke nu rc Tp)) ([.ref (ad 0), .int (nI bs), .int (nI ke), .int nu] : List Value).toArray s 0 0 A) (F0 m 80 ls []) := by
    intro n
    induction n with
    | zero => intro k b t1 hkw0 hwr hm; exfalso; omega
    | succ n ih =>
      intro k b t1 hkw0 hwr hm H locs hP hD hS ls hl
      refine lv_iload hx hb d_D_append_80 (lv_at hl 7 rfl) ?_
      refine lv_iload hx hb d_D_append_82 (lv_at hl 6 rfl) ?_
      refine n_icmp_ge hx hb (by omega) (by omega) (tgt := 112) d_D_append_84 (by decide) (fun hc84 => ?_) (fun hc84 => ?_)
      · skip
        have hkw : k = (min q (nd bs - 1)) := by omega
        subst hkw
        refine lv_aload_n hx hb d_D_append_112 rfl (lv_at hl 0 rfl) ?_
        refine lv_iconst (v := (-1)) hx hb d_D_append_113 (by decide) ?_
        refine pf_D_20 hB hP hD hS 0 rfl (Nat.le_of_ble_eq_true rfl) d_D_append_114 (fun H locs hP hD hS => ?_)
        have hP : va_P D classes (dW cs ad sz (-1) pw ol nx en rc b t1 Tp (va_up eA nx en) (va_up eS nx bs) (va_up eN nx nu) R) H := hP
        have hD : va_D A (dW cs ad sz (-1) pw ol nx en rc b t1 Tp (va_up eA nx en) (va_up eS nx bs) (va_up eN nx nu) R) := hD
        refine lv_iload hx hb d_D_append_117 (lv_at hl 5 rfl) ?_
        refine n_if_eq hx hb (by omega) (tgt := 148) d_D_append_119 (by decide) (fun h => absurd h (by decide)) (fun _ => ?_)
        refine lv_aload_n hx hb d_D_append_122 rfl (lv_at hl 0 rfl) ?_
        refine gf_D_10 (v := .ref (ad 1)) hB hP 0 rfl rfl d_D_append_123 ?_
        refine gf_D_61 (v := .ref (ad 3)) hB hP 1 rfl rfl d_D_append_126 ?_
        refine lv_aload_n hx hb d_D_append_129 rfl (lv_at hl 0 rfl) ?_
        refine gf_D_65 (v := .int (nI en)) hB hP 0 rfl rfl d_D_append_130 ?_
        refine lv_iload hx hb d_D_append_133 (lv_at hl 6 rfl) ?_
        refine n_add hx hb d_D_append_135 ?_
        refine lv_bipush (v := nI 40) hx hb d_D_append_136 (by decide) ?_
        refine n_rem hx hb (by omega) (by decide) (by decide) d_D_append_138 ?_
        refine lv_iconst (v := nI 0) hx hb d_D_append_139 (by decide) ?_
        refine n_zast hx hb hK hP hD hS 3 1 rfl rfl (by decide) (by omega) (by decide) d_D_append_140 (fun H locs hP hD hS => ?_)
        have hP : va_P D classes (dW cs ad sz (-1) pw ol nx en rc b (upd t1 ((en + (min q (nd bs - 1))) % 40) (nI 0)) Tp (va_up eA nx en) (va_up eS nx bs) (va_up eN nx nu) R) H := hP
        have hD : va_D A (dW cs ad sz (-1) pw ol nx en rc b (upd t1 ((en + (min q (nd bs - 1))) % 40) (nI 0)) Tp (va_up eA nx en) (va_up eS nx bs) (va_up eN nx nu) R) := hD
        refine lv_aload_n hx hb d_D_append_141 rfl (lv_at hl 0 rfl) ?_
        refine lv_iconst (v := nI 0) hx hb d_D_append_142 (by decide) ?_
        refine pf_D_24 hB hP hD hS 0 rfl (by decide) (by decide) (Nat.le_of_ble_eq_true rfl) d_D_append_143 (fun H locs hP hD hS => ?_)
        have hP : va_P D classes (dW cs ad sz (-1) (nI 0) ol nx en rc b (upd t1 ((en + (min q (nd bs - 1))) % 40) (nI 0)) Tp (va_up eA nx en) (va_up eS nx bs) (va_up eN nx nu) R) H := hP
        have hD : va_D A (dW cs ad sz (-1) (nI 0) ol nx en rc b (upd t1 ((en + (min q (nd bs - 1))) % 40) (nI 0)) Tp (va_up eA nx en) (va_up eS nx bs) (va_up eN nx nu) R) := hD
        refine lv_iconst (v := nI 0) hx hb d_D_append_146 (by decide) ?_
        exact r_zQ hB hr0 hlk (by decide) hP hD hS ⟨rfl, b, t1, rfl, hwr⟩ d_D_append_147
      · skip
        refine lv_aload_n hx hb d_D_append_87 rfl (lv_at hl 0 rfl) ?_
        refine lv_aload_n hx hb d_D_append_88 rfl (lv_at hl 0 rfl) ?_
        refine gf_D_65 (v := .int (nI en)) hB hP 0 rfl rfl d_D_append_89 ?_
        refine lv_iload hx hb d_D_append_92 (lv_at hl 7 rfl) ?_
        refine n_add hx hb d_D_append_94 ?_
        refine lv_bipush (v := nI 40) hx hb d_D_append_95 (by decide) ?_
        refine n_rem hx hb (by omega) (by decide) (by decide) d_D_append_97 ?_
        refine lv_iload hx hb d_D_append_98 (lv_at hl 7 rfl) ?_
        refine lv_iload_n hx hb d_D_append_100 rfl (lv_at hl 1 rfl) ?_
        refine lv_iload_n hx hb d_D_append_101 rfl (lv_at hl 2 rfl) ?_
        refine lv_iload_n hx hb d_D_append_102 rfl (lv_at hl 3 rfl) ?_
        refine x_cQv (As := [.int (nI ((en + k) % 40)), .int (nI k), .int (nI bs), .int (nI ke), .int nu]) (rest := []) (n := 5) hB (c_D_sector l (i := (en + k) % 40) (pl := k) (q := rq) (by omega) (by omega) hb2 (by omega) hk2 hrq hrc) gi_D_78 (by decide +kernel) rfl rfl ⟨Nat.le_of_ble_eq_true rfl, Nat.le_of_ble_eq_true rfl⟩ hP hD hS 0 rfl rfl hl.1 rfl (Nat.le_of_ble_eq_true rfl) d_D_append_103 ⟨Nat.le_of_ble_eq_true rfl, Nat.le_of_ble_eq_true rfl⟩ (fun w H locs hw hP hD hS => ?_)
        obtain ⟨b2, rfl, hfr, hsc⟩ := hw
        refine n_inc (d := 1) (k := 7) (lv' := [(8, .int (nI (k + 1))), (0, .ref (ad 0)), (1, .int (nI bs)), (2, .int (nI ke)), (3, .int nu), (5, .int (nI (nd bs))), (6, .int (nI 1)), (7, .int (nI (min q (nd bs - 1))))]) hx hb d_D_append_106 (by decide) hl rfl (by decide) rfl (fun ls hl => ?_)
        refine lv_goto (tgt := 80) hx hb d_D_append_109 (by decide) ?_
        exact ih (k + 1) b2 (upd t1 ((en + k) % 40) (nI 1)) (by omega) (wrote_s hwr (by omega) hfr hsc) (by omega) _ _ hP hD hS ls (lv_sub hl [1, 2, 3, 4, 5, 6, 7, 0] rfl)
  exact loop ((min q (nd bs - 1)) + 1) 0 B Rt (by omega) wrote_0 (by omega) _ _ hP hD hS ls (lv_sub hl [5, 6, 7, 8, 3, 2, 1, 0] rfl)
end
section
/-! the desk: write, drop -/
set_option maxHeartbeats 4000000 in
set_option maxRecDepth 100000 in
/-- write: no room, or no power -/
theorem c_D_writeN (l : Launch) {D : va_G} {A : Nat → Prop} {cs : Nat → ClassId} {ad : Nat → Nat} {sz : Nat} {cu pw : Int32} {ol nx en : Nat} {rc : Int32} {B Rt Tp : Nat → Int32} {eA eS : Nat → Nat} {eN : Nat → Int32} {R : va_W} {q rq : Nat} (h1 : ol ≤ nx) (h2 : nx < 520) (hs : ∀ k, eS k ≤ 100) (hz : sz ≤ 100) (he : en < 40) (hrq : rq < 65535) (hrc : rc = nI rq) (h : ¬ (¬ pw = 0 ∧ us eS ol (nx - ol) + nd sz ≤ 40)) : Met l y_D_write (Cond.code y_D_write b_D_write 3 (some .int) :: gw) (rmn 4) (va_Pc [.ref (ad 0)] (St D cs A (dW cs ad sz cu pw ol nx en rc B Rt Tp eA eS eN R))) (QI D A (fun r z => r = -1 ∧ z = dW cs ad sz cu pw ol nx en rc B Rt Tp eA eS eN R)) 0 0 A := by
  refine x_start (by decide) (Nat.le_of_ble_eq_true rfl) ?_
  intro p e s m below meth c hB hr hlk hin hP hD ls hl
  have hx := hB.1
  have hb := hB.2.1
  have hown := hB.2.2.2.1
  have hts := hB.2.2.2.2.1
  have hK := hB.2.2.2.2.2.1
  have hS : va_S A s.heap s.heap [] := va_S.rf
  have hl : lv_has ls 3 [(0, .ref (ad 0))] := hl
  have hr0 := hr
  have hnd := nd_le hz
  refine lv_iconst (v := nI 1) hx hb d_D_write_0 (by decide) ?_
  refine lv_aload_n hx hb d_D_write_1 rfl (lv_at hl 0 rfl) ?_
  refine gf_D_35 (v := .int (nI sz)) hB hP 0 rfl rfl d_D_write_2 ?_
  refine lv_bipush (v := nI 12) hx hb d_D_write_5 (by decide) ?_
  refine n_add hx hb d_D_write_7 ?_
  refine lv_iconst (v := nI 1) hx hb d_D_write_8 (by decide) ?_
  refine n_sub hx hb (by omega) d_D_write_9 ?_
  refine lv_bipush (v := nI 12) hx hb d_D_write_10 (by decide) ?_
  refine n_div hx hb (by omega) (by decide) (by decide) d_D_write_12 ?_
  refine x_max hB mm_D_max hl.1 (Nat.le_of_ble_eq_true rfl) (Nat.le_of_ble_eq_true rfl) (Nat.le_of_ble_eq_true rfl) (Nat.le_of_ble_eq_true rfl) (by omega) (by omega) d_D_write_13 ?_
  refine tp_i (y := nI (nd sz)) (congrArg nI (nd_max _)) ?_
  refine lv_istore_n (lv' := [(1, .int (nI (nd sz))), (0, .ref (ad 0))]) hx hb d_D_write_16 rfl hl (by decide) rfl (fun ls hl => ?_)
  refine lv_aload_n hx hb d_D_write_17 rfl (lv_at hl 1 rfl) ?_
  refine lv_iload_n hx hb d_D_write_18 rfl (lv_at hl 0 rfl) ?_
  refine x_cSi (As := [.int (nI (nd sz))]) (rest := []) (n := 1) hB (c_D_hasRoom l (n := nd sz) h1 (by omega) hs (by omega)) gi_D_88 (by decide +kernel) rfl rfl ⟨Nat.le_of_ble_eq_true rfl, Nat.le_of_ble_eq_true rfl⟩ hP hD 0 rfl rfl hl.1 rfl (Nat.le_of_ble_eq_true rfl) d_D_write_19 ⟨Nat.le_of_ble_eq_true rfl, Nat.le_of_ble_eq_true rfl⟩ (fun r hr => ?_)
  subst hr
  refine tp_i (y := nI 0) (by rw [if_neg h]) ?_
  refine n_if_ne hx hb (by omega) (tgt := 27) d_D_write_22 (by decide) (fun h => absurd h (by decide)) (fun _ => ?_)
  refine lv_iconst (v := (-1)) hx hb d_D_write_25 (by decide) ?_
  exact r_iQ hB hr0 hlk hP hD hS ⟨rfl, rfl⟩ d_D_write_26
set_option maxHeartbeats 4000000 in
set_option maxRecDepth 100000 in
/-- write -/
theorem c_D_write (l : Launch) {D : va_G} {A : Nat → Prop} {cs : Nat → ClassId} {ad : Nat → Nat} {sz : Nat} {cu pw : Int32} {ol nx en : Nat} {rc : Int32} {B Rt Tp : Nat → Int32} {eA eS : Nat → Nat} {eN : Nat → Int32} {R : va_W} {q rq : Nat} (h1 : ol ≤ nx) (h2 : nx < 520) (hs : ∀ k, eS k ≤ 100) (hz : sz ≤ 100) (he : en < 40) (hrq : rq < 65535) (hrc : rc = nI rq) (h : ¬ pw = 0 ∧ us eS ol (nx - ol) + nd sz ≤ 40) : Met l y_D_write (Cond.code y_D_write b_D_write 3 (some .int) :: gw) (rmn 4) (va_Pc [.ref (ad 0)] (St D cs A (dW cs ad sz (-1) pw ol nx en rc B Rt Tp eA eS eN R))) (QI D A (fun r z => r = rc ∧ ∃ B1 R1 : Nat → Int32, z = dW cs ad 0 (-1) pw ol (nx + 1) ((en + nd sz) % 40) (rc + 1) B1 R1 Tp (va_up eA nx en) (va_up eS nx sz) (va_up eN nx rc) R ∧ wrote B Rt B1 R1 en nx (nd sz) sz ol rc rc Tp)) 0 0 A := by
  refine x_start (by decide) (Nat.le_of_ble_eq_true rfl) ?_
  intro p e s m below meth c hB hr hlk hin hP hD ls hl
  have hx := hB.1
  have hb := hB.2.1
  have hown := hB.2.2.2.1
  have hts := hB.2.2.2.2.1
  have hK := hB.2.2.2.2.2.1
  have hS : va_S A s.heap s.heap [] := va_S.rf
  have hl : lv_has ls 3 [(0, .ref (ad 0))] := hl
  have hr0 := hr
  have hnd := nd_le hz
  refine lv_iconst (v := nI 1) hx hb d_D_write_0 (by decide) ?_
  refine lv_aload_n hx hb d_D_write_1 rfl (lv_at hl 0 rfl) ?_
  refine gf_D_35 (v := .int (nI sz)) hB hP 0 rfl rfl d_D_write_2 ?_
  refine lv_bipush (v := nI 12) hx hb d_D_write_5 (by decide) ?_
  refine n_add hx hb d_D_write_7 ?_
  refine lv_iconst (v := nI 1) hx hb d_D_write_8 (by decide) ?_
  refine n_sub hx hb (by omega) d_D_write_9 ?_
  refine lv_bipush (v := nI 12) hx hb d_D_write_10 (by decide) ?_
  refine n_div hx hb (by omega) (by decide) (by decide) d_D_write_12 ?_
  refine x_max hB mm_D_max hl.1 (Nat.le_of_ble_eq_true rfl) (Nat.le_of_ble_eq_true rfl) (Nat.le_of_ble_eq_true rfl) (Nat.le_of_ble_eq_true rfl) (by omega) (by omega) d_D_write_13 ?_
  refine tp_i (y := nI (nd sz)) (congrArg nI (nd_max _)) ?_
  refine lv_istore_n (lv' := [(1, .int (nI (nd sz))), (0, .ref (ad 0))]) hx hb d_D_write_16 rfl hl (by decide) rfl (fun ls hl => ?_)
  refine lv_aload_n hx hb d_D_write_17 rfl (lv_at hl 1 rfl) ?_
  refine lv_iload_n hx hb d_D_write_18 rfl (lv_at hl 0 rfl) ?_
  refine x_cSi (As := [.int (nI (nd sz))]) (rest := []) (n := 1) hB (c_D_hasRoom l (n := nd sz) h1 (by omega) hs (by omega)) gi_D_88 (by decide +kernel) rfl rfl ⟨Nat.le_of_ble_eq_true rfl, Nat.le_of_ble_eq_true rfl⟩ hP hD 0 rfl rfl hl.1 rfl (Nat.le_of_ble_eq_true rfl) d_D_write_19 ⟨Nat.le_of_ble_eq_true rfl, Nat.le_of_ble_eq_true rfl⟩ (fun r hr => ?_)
  subst hr
  refine tp_i (y := nI 1) (by rw [if_pos h]) ?_
  refine n_if_ne hx hb (by omega) (tgt := 27) d_D_write_22 (by decide) (fun _ => ?_) (fun h => absurd h (by decide))
  refine lv_aload_n hx hb d_D_write_27 rfl (lv_at hl 1 rfl) ?_
  refine lv_aload_n hx hb d_D_write_28 rfl (lv_at hl 1 rfl) ?_
  refine gf_D_35 (v := .int (nI sz)) hB hP 0 rfl rfl d_D_write_29 ?_
  refine lv_aload_n hx hb d_D_write_32 rfl (lv_at hl 1 rfl) ?_
  refine gf_D_38 (v := .int (nI ol)) hB hP 0 rfl rfl d_D_write_33 ?_
  refine lv_aload_n hx hb d_D_write_36 rfl (lv_at hl 1 rfl) ?_
  refine gf_D_58 (v := .int rc) hB hP 0 rfl rfl d_D_write_37 ?_
  refine x_cQi (As := [.int (nI sz), .int (nI ol), .int rc]) (rest := []) (n := 3) hB (c_D_append l (cu := 0) (bs := sz) (ke := ol) (nu := rc) (q := 0) (rq := rq) h2 he hz (by omega) (by omega) hrc) gi_D_92 (by decide +kernel) rfl rfl ⟨Nat.le_of_ble_eq_true rfl, Nat.le_of_ble_eq_true rfl⟩ hP hD hS 0 rfl rfl hl.1 rfl (Nat.le_of_ble_eq_true rfl) d_D_write_40 ⟨Nat.le_of_ble_eq_true rfl, Nat.le_of_ble_eq_true rfl⟩ (fun r w H locs hw hP hD hS => ?_)
  obtain ⟨rfl, b, t1, rfl, hwr⟩ := hw
  refine tp_i (y := nI 1) rfl ?_
  refine lv_istore_n (lv' := [(2, .int (nI 1)), (1, .int (nI (nd sz))), (0, .ref (ad 0))]) hx hb d_D_write_43 rfl hl (by decide) rfl (fun ls hl => ?_)
  refine lv_aload_n hx hb d_D_write_44 rfl (lv_at hl 2 rfl) ?_
  refine lv_iconst (v := nI 0) hx hb d_D_write_45 (by decide) ?_
  refine pf_D_35 hB hP hD hS 0 rfl (Nat.le_of_ble_eq_true rfl) d_D_write_46 (fun H locs hP hD hS => ?_)
  have hP : va_P D classes (dW cs ad 0 (-1) pw ol (nx + 1) ((en + nd sz) % 40) rc b t1 Tp (va_up eA nx en) (va_up eS nx sz) (va_up eN nx rc) R) H := hP
  have hD : va_D A (dW cs ad 0 (-1) pw ol (nx + 1) ((en + nd sz) % 40) rc b t1 Tp (va_up eA nx en) (va_up eS nx sz) (va_up eN nx rc) R) := hD
  refine lv_iload_n hx hb d_D_write_49 rfl (lv_at hl 0 rfl) ?_
  refine n_if_ne hx hb (by omega) (tgt := 56) d_D_write_50 (by decide) (fun _ => ?_) (fun h => absurd h (by decide))
  refine lv_aload_n hx hb d_D_write_56 rfl (lv_at hl 2 rfl) ?_
  refine lv_dup hx hb d_D_write_57 rfl ?_
  refine gf_D_58 (v := .int rc) hB hP 0 rfl rfl d_D_write_58 ?_
  refine lv_iconst (v := 1) hx hb d_D_write_61 (by decide) ?_
  refine lv_iadd hx hb d_D_write_62 ?_
  refine pf_D_58 hB hP hD hS 0 rfl (Nat.le_of_ble_eq_true rfl) d_D_write_63 (fun H locs hP hD hS => ?_)
  have hP : va_P D classes (dW cs ad 0 (-1) pw ol (nx + 1) ((en + nd sz) % 40) (rc + 1) b t1 Tp (va_up eA nx en) (va_up eS nx sz) (va_up eN nx rc) R) H := hP
  have hD : va_D A (dW cs ad 0 (-1) pw ol (nx + 1) ((en + nd sz) % 40) (rc + 1) b t1 Tp (va_up eA nx en) (va_up eS nx sz) (va_up eN nx rc) R) := hD
  refine lv_aload_n hx hb d_D_write_66 rfl (lv_at hl 2 rfl) ?_
  refine gf_D_58 (v := .int (rc + 1)) hB hP 0 rfl rfl d_D_write_67 ?_
  refine lv_iconst (v := 1) hx hb d_D_write_70 (by decide) ?_
  refine lv_isub hx hb d_D_write_71 ?_
  refine tp_i (y := rc) (by rw [Int32.add_sub_cancel]) ?_
  exact r_iQ hB hr0 hlk hP hD hS ⟨rfl, b, t1, rfl, hwr⟩ d_D_write_72
set_option maxHeartbeats 4000000 in
set_option maxRecDepth 100000 in
/-- write: the power goes -/
theorem c_D_writeC (l : Launch) {D : va_G} {A : Nat → Prop} {cs : Nat → ClassId} {ad : Nat → Nat} {sz : Nat} {cu pw : Int32} {ol nx en : Nat} {rc : Int32} {B Rt Tp : Nat → Int32} {eA eS : Nat → Nat} {eN : Nat → Int32} {R : va_W} {q rq : Nat} (h1 : ol ≤ nx) (h2 : nx < 520) (hs : ∀ k, eS k ≤ 100) (hz : sz ≤ 100) (he : en < 40) (hrq : rq < 65535) (hrc : rc = nI rq) (hq : q ≤ 8) (h : ¬ pw = 0 ∧ us eS ol (nx - ol) + nd sz ≤ 40) : Met l y_D_write (Cond.code y_D_write b_D_write 3 (some .int) :: gw) (rmn 4) (va_Pc [.ref (ad 0)] (St D cs A (dW cs ad sz (nI q) pw ol nx en rc B Rt Tp eA eS eN R))) (QI D A (fun r z => r = -2 ∧ ∃ B1 R1 : Nat → Int32, z = dW cs ad 0 (-1) (nI 0) ol nx en rc B1 (upd R1 ((en + (min q (nd sz - 1))) % 40) (nI 0)) Tp (va_up eA nx en) (va_up eS nx sz) (va_up eN nx rc) R ∧ wrote B Rt B1 R1 en nx (min q (nd sz - 1)) sz ol rc rc Tp)) 0 0 A := by
  refine x_start (by decide) (Nat.le_of_ble_eq_true rfl) ?_
  intro p e s m below meth c hB hr hlk hin hP hD ls hl
  have hx := hB.1
  have hb := hB.2.1
  have hown := hB.2.2.2.1
  have hts := hB.2.2.2.2.1
  have hK := hB.2.2.2.2.2.1
  have hS : va_S A s.heap s.heap [] := va_S.rf
  have hl : lv_has ls 3 [(0, .ref (ad 0))] := hl
  have hr0 := hr
  have hnd := nd_le hz
  refine lv_iconst (v := nI 1) hx hb d_D_write_0 (by decide) ?_
  refine lv_aload_n hx hb d_D_write_1 rfl (lv_at hl 0 rfl) ?_
  refine gf_D_35 (v := .int (nI sz)) hB hP 0 rfl rfl d_D_write_2 ?_
  refine lv_bipush (v := nI 12) hx hb d_D_write_5 (by decide) ?_
  refine n_add hx hb d_D_write_7 ?_
  refine lv_iconst (v := nI 1) hx hb d_D_write_8 (by decide) ?_
  refine n_sub hx hb (by omega) d_D_write_9 ?_
  refine lv_bipush (v := nI 12) hx hb d_D_write_10 (by decide) ?_
  refine n_div hx hb (by omega) (by decide) (by decide) d_D_write_12 ?_
  refine x_max hB mm_D_max hl.1 (Nat.le_of_ble_eq_true rfl) (Nat.le_of_ble_eq_true rfl) (Nat.le_of_ble_eq_true rfl) (Nat.le_of_ble_eq_true rfl) (by omega) (by omega) d_D_write_13 ?_
  refine tp_i (y := nI (nd sz)) (congrArg nI (nd_max _)) ?_
  refine lv_istore_n (lv' := [(1, .int (nI (nd sz))), (0, .ref (ad 0))]) hx hb d_D_write_16 rfl hl (by decide) rfl (fun ls hl => ?_)
  refine lv_aload_n hx hb d_D_write_17 rfl (lv_at hl 1 rfl) ?_
  refine lv_iload_n hx hb d_D_write_18 rfl (lv_at hl 0 rfl) ?_
  refine x_cSi (As := [.int (nI (nd sz))]) (rest := []) (n := 1) hB (c_D_hasRoom l (n := nd sz) h1 (by omega) hs (by omega)) gi_D_88 (by decide +kernel) rfl rfl ⟨Nat.le_of_ble_eq_true rfl, Nat.le_of_ble_eq_true rfl⟩ hP hD 0 rfl rfl hl.1 rfl (Nat.le_of_ble_eq_true rfl) d_D_write_19 ⟨Nat.le_of_ble_eq_true rfl, Nat.le_of_ble_eq_true rfl⟩ (fun r hr => ?_)
  subst hr
  refine tp_i (y := nI 1) (by rw [if_pos h]) ?_
  refine n_if_ne hx hb (by omega) (tgt := 27) d_D_write_22 (by decide) (fun _ => ?_) (fun h => absurd h (by decide))
  refine lv_aload_n hx hb d_D_write_27 rfl (lv_at hl 1 rfl) ?_
  refine lv_aload_n hx hb d_D_write_28 rfl (lv_at hl 1 rfl) ?_
  refine gf_D_35 (v := .int (nI sz)) hB hP 0 rfl rfl d_D_write_29 ?_
  refine lv_aload_n hx hb d_D_write_32 rfl (lv_at hl 1 rfl) ?_
  refine gf_D_38 (v := .int (nI ol)) hB hP 0 rfl rfl d_D_write_33 ?_
  refine lv_aload_n hx hb d_D_write_36 rfl (lv_at hl 1 rfl) ?_
  refine gf_D_58 (v := .int rc) hB hP 0 rfl rfl d_D_write_37 ?_
  refine x_cQi (As := [.int (nI sz), .int (nI ol), .int rc]) (rest := []) (n := 3) hB (c_D_appendC l (cu := 0) (bs := sz) (ke := ol) (nu := rc) (q := q) (rq := rq) h2 he hz (by omega) (by omega) hrc hq) gi_D_92 (by decide +kernel) rfl rfl ⟨Nat.le_of_ble_eq_true rfl, Nat.le_of_ble_eq_true rfl⟩ hP hD hS 0 rfl rfl hl.1 rfl (Nat.le_of_ble_eq_true rfl) d_D_write_40 ⟨Nat.le_of_ble_eq_true rfl, Nat.le_of_ble_eq_true rfl⟩ (fun r w H locs hw hP hD hS => ?_)
  obtain ⟨rfl, b, t1, rfl, hwr⟩ := hw
  refine tp_i (y := nI 0) rfl ?_
  refine lv_istore_n (lv' := [(2, .int (nI 0)), (1, .int (nI (nd sz))), (0, .ref (ad 0))]) hx hb d_D_write_43 rfl hl (by decide) rfl (fun ls hl => ?_)
  refine lv_aload_n hx hb d_D_write_44 rfl (lv_at hl 2 rfl) ?_
  refine lv_iconst (v := nI 0) hx hb d_D_write_45 (by decide) ?_
  refine pf_D_35 hB hP hD hS 0 rfl (Nat.le_of_ble_eq_true rfl) d_D_write_46 (fun H locs hP hD hS => ?_)
  have hP : va_P D classes (dW cs ad 0 (-1) (nI 0) ol nx en rc b (upd t1 ((en + (min q (nd sz - 1))) % 40) (nI 0)) Tp (va_up eA nx en) (va_up eS nx sz) (va_up eN nx rc) R) H := hP
  have hD : va_D A (dW cs ad 0 (-1) (nI 0) ol nx en rc b (upd t1 ((en + (min q (nd sz - 1))) % 40) (nI 0)) Tp (va_up eA nx en) (va_up eS nx sz) (va_up eN nx rc) R) := hD
  refine lv_iload_n hx hb d_D_write_49 rfl (lv_at hl 0 rfl) ?_
  refine n_if_ne hx hb (by omega) (tgt := 56) d_D_write_50 (by decide) (fun h => absurd h (by decide)) (fun _ => ?_)
  refine lv_bipush (v := (-2)) hx hb d_D_write_53 (by decide) ?_
  exact r_iQ hB hr0 hlk hP hD hS ⟨rfl, b, t1, rfl, hwr⟩ d_D_write_55
set_option maxHeartbeats 4000000 in
set_option maxRecDepth 100000 in
/-- drop: refused -/
theorem c_D_dropN (l : Launch) {D : va_G} {A : Nat → Prop} {cs : Nat → ClassId} {ad : Nat → Nat} {sz : Nat} {cu pw : Int32} {ol nx en : Nat} {rc : Int32} {B Rt Tp : Nat → Int32} {eA eS : Nat → Nat} {eN : Nat → Int32} {R : va_W} {q rq : Nat} {x : Int32} (h1 : ol ≤ nx) (h2 : nx < 520) (hs : ∀ k, eS k ≤ 100) (he : en < 40) (hrq : rq < 65535) (hrc : rc = nI rq) (h : ¬ ((¬ pw = 0 ∧ us eS ol (nx - ol) + 1 ≤ 40) ∧ ∃ j, j ≤ mn eN ol (nx - ol) ∧ x = nI j)) : Met l y_D_drop (Cond.code y_D_drop b_D_drop 4 (some .int) :: gw) (rmn 4) (va_Pc [.ref (ad 0), .int x] (St D cs A (dW cs ad sz cu pw ol nx en rc B Rt Tp eA eS eN R))) (QI D A (fun r z => r = -1 ∧ z = dW cs ad sz cu pw ol nx en rc B Rt Tp eA eS eN R)) 0 0 A := by
  refine x_start (by decide) (Nat.le_of_ble_eq_true rfl) ?_
  intro p e s m below meth c hB hr hlk hin hP hD ls hl
  have hx := hB.1
  have hb := hB.2.1
  have hown := hB.2.2.2.1
  have hts := hB.2.2.2.2.1
  have hK := hB.2.2.2.2.2.1
  have hS : va_S A s.heap s.heap [] := va_S.rf
  have hl : lv_has ls 4 [(0, .ref (ad 0)), (1, .int x)] := hl
  have hr0 := hr
  have hml := mn_le eN ol (nx - ol)
  have hU := us_le eS ol (nx - ol) (fun j _ => hs _)
  refine lv_aload_n hx hb d_D_drop_0 rfl (lv_at hl 0 rfl) ?_
  refine lv_iconst (v := nI 1) hx hb d_D_drop_1 (by decide) ?_
  refine x_cSi (As := [.int (nI 1)]) (rest := []) (n := 1) hB (c_D_hasRoom l (n := 1) h1 (by omega) hs (by omega)) gi_D_88 (by decide +kernel) rfl rfl ⟨Nat.le_of_ble_eq_true rfl, Nat.le_of_ble_eq_true rfl⟩ hP hD 0 rfl rfl hl.1 rfl (Nat.le_of_ble_eq_true rfl) d_D_drop_2 ⟨Nat.le_of_ble_eq_true rfl, Nat.le_of_ble_eq_true rfl⟩ (fun r hr => ?_)
  subst hr
  refine n_if_eq hx hb (by split <;> omega) (tgt := 20) d_D_drop_5 (by decide) (fun hc5 => ?_) (fun hc5 => ?_)
  · skip
    refine lv_iconst (v := (-1)) hx hb d_D_drop_20 (by decide) ?_
    exact r_iQ hB hr0 hlk hP hD hS ⟨rfl, rfl⟩ d_D_drop_21
  · skip
    have hrm : ¬ pw = 0 ∧ us eS ol (nx - ol) + 1 ≤ 40 := by
      by_cases q : ¬ pw = 0 ∧ us eS ol (nx - ol) + 1 ≤ 40
      · exact q
      · rw [if_neg q] at hc5; exact absurd rfl hc5
    refine lv_iload_n hx hb d_D_drop_8 rfl (lv_at hl 1 rfl) ?_
    refine lv_if_lt (tgt := 20) hx hb d_D_drop_9 (by decide) (fun hc9 => ?_) (fun hc9 => ?_)
    · skip
      refine lv_iconst (v := (-1)) hx hb d_D_drop_20 (by decide) ?_
      exact r_iQ hB hr0 hlk hP hD hS ⟨rfl, rfl⟩ d_D_drop_21
    · skip
      obtain ⟨j, hj31, hxj⟩ := nI_of (x := x) hc9
      rw [hxj] at hl
      refine lv_iload_n hx hb d_D_drop_12 rfl (lv_at hl 1 rfl) ?_
      refine lv_aload_n hx hb d_D_drop_13 rfl (lv_at hl 0 rfl) ?_
      refine x_cSi (As := []) (rest := [.int (nI j)]) (n := 0) hB (c_D_many l h1 (by omega)) gi_D_96 (by decide +kernel) rfl rfl ⟨Nat.le_of_ble_eq_true rfl, Nat.le_of_ble_eq_true rfl⟩ hP hD 0 rfl rfl hl.1 rfl (Nat.le_of_ble_eq_true rfl) d_D_drop_14 ⟨Nat.le_of_ble_eq_true rfl, Nat.le_of_ble_eq_true rfl⟩ (fun r hr => ?_)
      subst hr
      refine n_icmp_le hx hb (by omega) (by omega) (tgt := 22) d_D_drop_17 (by decide) (fun hc17 => (absurd ⟨hrm, j, hc17, hxj⟩ h)) (fun hc17 => ?_)
      refine lv_iconst (v := (-1)) hx hb d_D_drop_20 (by decide) ?_
      exact r_iQ hB hr0 hlk hP hD hS ⟨rfl, rfl⟩ d_D_drop_21
set_option maxHeartbeats 4000000 in
set_option maxRecDepth 100000 in
/-- drop -/
theorem c_D_drop (l : Launch) {D : va_G} {A : Nat → Prop} {cs : Nat → ClassId} {ad : Nat → Nat} {sz : Nat} {cu pw : Int32} {ol nx en : Nat} {rc : Int32} {B Rt Tp : Nat → Int32} {eA eS : Nat → Nat} {eN : Nat → Int32} {R : va_W} {q rq j : Nat} (h1 : ol ≤ nx) (h2 : nx < 520) (hs : ∀ k, eS k ≤ 100) (he : en < 40) (hrq : rq < 65535) (hrc : rc = nI rq) (hj : j ≤ mn eN ol (nx - ol)) (h : ¬ pw = 0 ∧ us eS ol (nx - ol) + 1 ≤ 40) : Met l y_D_drop (Cond.code y_D_drop b_D_drop 4 (some .int) :: gw) (rmn 4) (va_Pc [.ref (ad 0), .int (nI j)] (St D cs A (dW cs ad sz (-1) pw ol nx en rc B Rt Tp eA eS eN R))) (QI D A (fun r z => ∃ (d : Nat) (B1 R1 : Nat → Int32), r = nI (mn (va_up eN nx (-1)) (ol + d) (nx + 1 - (ol + d))) ∧ (ol + d ≤ nx ∧ mn eN ol d = j ∧ (ol + d = nx ∨ ¬ eN (ol + d) = -1)) ∧ z = dW cs ad sz (-1) pw (ol + d) (nx + 1) ((en + nd 0) % 40) rc B1 R1 Tp (va_up eA nx en) (va_up eS nx 0) (va_up eN nx (-1)) R ∧ wrote B Rt B1 R1 en nx (nd 0) 0 (ol + d) (-1) rc Tp)) 0 0 A := by
  refine x_start (by decide) (Nat.le_of_ble_eq_true rfl) ?_
  intro p e s m below meth c hB hr hlk hin hP hD ls hl
  have hx := hB.1
  have hb := hB.2.1
  have hown := hB.2.2.2.1
  have hts := hB.2.2.2.2.1
  have hK := hB.2.2.2.2.2.1
  have hS : va_S A s.heap s.heap [] := va_S.rf
  have hl : lv_has ls 4 [(0, .ref (ad 0)), (1, .int (nI j))] := hl
  have hr0 := hr
  have hml := mn_le eN ol (nx - ol)
  have hU := us_le eS ol (nx - ol) (fun j _ => hs _)
  refine lv_aload_n hx hb d_D_drop_0 rfl (lv_at hl 0 rfl) ?_
  refine lv_iconst (v := nI 1) hx hb d_D_drop_1 (by decide) ?_
  refine x_cSi (As := [.int (nI 1)]) (rest := []) (n := 1) hB (c_D_hasRoom l (n := 1) h1 (by omega) hs (by omega)) gi_D_88 (by decide +kernel) rfl rfl ⟨Nat.le_of_ble_eq_true rfl, Nat.le_of_ble_eq_true rfl⟩ hP hD 0 rfl rfl hl.1 rfl (Nat.le_of_ble_eq_true rfl) d_D_drop_2 ⟨Nat.le_of_ble_eq_true rfl, Nat.le_of_ble_eq_true rfl⟩ (fun r hr => ?_)
  subst hr
  refine tp_i (y := nI 1) (by rw [if_pos h]) ?_
  refine n_if_eq hx hb (by omega) (tgt := 20) d_D_drop_5 (by decide) (fun h => absurd h (by decide)) (fun _ => ?_)
  refine lv_iload_n hx hb d_D_drop_8 rfl (lv_at hl 1 rfl) ?_
  refine n_if_lt hx hb (by omega) (tgt := 20) d_D_drop_9 (by decide) ?_
  refine lv_iload_n hx hb d_D_drop_12 rfl (lv_at hl 1 rfl) ?_
  refine lv_aload_n hx hb d_D_drop_13 rfl (lv_at hl 0 rfl) ?_
  refine x_cSi (As := []) (rest := [.int (nI j)]) (n := 0) hB (c_D_many l h1 (by omega)) gi_D_96 (by decide +kernel) rfl rfl ⟨Nat.le_of_ble_eq_true rfl, Nat.le_of_ble_eq_true rfl⟩ hP hD 0 rfl rfl hl.1 rfl (Nat.le_of_ble_eq_true rfl) d_D_drop_14 ⟨Nat.le_of_ble_eq_true rfl, Nat.le_of_ble_eq_true rfl⟩ (fun r hr => ?_)
  subst hr
  refine n_icmp_le hx hb (by omega) (by omega) (tgt := 22) d_D_drop_17 (by decide) (fun hc17 => ?_) (fun hc17 => (absurd hc17 (by omega)))
  refine lv_aload_n hx hb d_D_drop_22 rfl (lv_at hl 0 rfl) ?_
  refine gf_D_38 (v := .int (nI ol)) hB hP 0 rfl rfl d_D_drop_23 ?_
  refine lv_istore_n (lv' := [(2, .int (nI ol)), (0, .ref (ad 0)), (1, .int (nI j))]) hx hb d_D_drop_26 rfl hl (by decide) rfl (fun ls hl => ?_)
  refine lv_iload_n hx hb d_D_drop_27 rfl (lv_at hl 2 rfl) ?_
  refine lv_istore_n (lv' := [(3, .int (nI j)), (2, .int (nI ol)), (0, .ref (ad 0)), (1, .int (nI j))]) hx hb d_D_drop_28 rfl hl (by decide) rfl (fun ls hl => ?_)
  have loop : ∀ (n : Nat) (d : Nat) (i : Nat), (ol + d ≤ nx) → (i + mn eN ol d = j) → (i < 2 ^ 31) → (nx + 1 ≤ ol + d + n) → ∀ (H : Heap) (locs : List Loc), va_P D classes (dW cs ad sz (-1) pw ol nx en rc B Rt Tp eA eS eN R) H → va_D A (dW cs ad sz (-1) pw ol nx en rc B Rt Tp eA eS eN R) → va_S A s.heap H locs → ∀ ls : Array Slot, lv_has ls 4 [(0, .ref (ad 0)), (2, .int (nI (ol + d))), (3, .int (nI i))] → W p l e (rmn 4) s m ([.ref (ad 0), .int (nI j)] : List Value).toArray below meth c H locs 0 0 (MQ below (QI D A (fun r z => ∃ (d : Nat) (B1 R1 : Nat → Int32), r = nI (mn (va_up eN nx (-1)) (ol + d) (nx + 1 - (ol + d))) ∧ (ol + d ≤ nx ∧ mn eN ol d = j ∧ (ol + d = nx ∨ ¬ eN (ol + d) = -1)) ∧ z = dW cs ad sz (-1) pw (ol + d) (nx + 1) ((en + nd 0) % 40) rc B1 R1 Tp (va_up eA nx en) (va_up eS nx 0) (va_up eN nx (-1)) R ∧ wrote B Rt B1 R1 en nx (nd 0) 0 (ol + d) (-1) rc Tp)) ([.ref (ad 0), .int (nI j)] : List Value).toArray s 0 0 A) (F0 m 29 ls []) := by
    intro n
    induction n with
    | zero => intro d i hd hi hi3 hm; exfalso; omega
    | succ n ih =>
      intro d i hd hi hi3 hm H locs hP hD hS ls hl
      refine lv_iload_n hx hb d_D_drop_29 rfl (lv_at hl 1 rfl) ?_
      refine lv_aload_n hx hb d_D_drop_30 rfl (lv_at hl 0 rfl) ?_
      refine gf_D_41 (v := .int (nI nx)) hB hP 0 rfl rfl d_D_drop_31 ?_
      refine n_icmp_ge hx hb (by omega) (by omega) (tgt := 81) d_D_drop_34 (by decide) (fun hc34 => ?_) (fun hc34 => ?_)
      · skip
        have hdn : ol + d = nx := by omega
        have hdd : d = nx - ol := by omega
        have hkp : ol + d ≤ nx ∧ mn eN ol d = j ∧ (ol + d = nx ∨ ¬ eN (ol + d) = -1) := ⟨hd, by rw [← hdd] at hj; omega, Or.inl hdn⟩
        refine lv_aload_n hx hb d_D_drop_81 rfl (lv_at hl 0 rfl) ?_
        refine lv_iconst (v := nI 0) hx hb d_D_drop_82 (by decide) ?_
        refine lv_iload_n hx hb d_D_drop_83 rfl (lv_at hl 1 rfl) ?_
        refine lv_iconst (v := (-1)) hx hb d_D_drop_84 (by decide) ?_
        refine x_cQi (As := [.int (nI 0), .int (nI (ol + d)), .int (-1)]) (rest := []) (n := 3) hB (c_D_append l (cu := 0) (bs := 0) (ke := ol + d) (nu := -1) (q := 0) (rq := rq) h2 he (by omega) (by omega) (by omega) hrc) gi_D_92 (by decide +kernel) rfl rfl ⟨Nat.le_of_ble_eq_true rfl, Nat.le_of_ble_eq_true rfl⟩ hP hD hS 0 rfl rfl hl.1 rfl (Nat.le_of_ble_eq_true rfl) d_D_drop_85 ⟨Nat.le_of_ble_eq_true rfl, Nat.le_of_ble_eq_true rfl⟩ (fun r w H locs hw hP hD hS => ?_)
        obtain ⟨rfl, b, t1, rfl, hwr⟩ := hw
        refine tp_i (y := nI 1) rfl ?_
        refine n_if_ne hx hb (by omega) (tgt := 94) d_D_drop_88 (by decide) (fun _ => ?_) (fun h => absurd h (by decide))
        refine lv_aload_n hx hb d_D_drop_94 rfl (lv_at hl 0 rfl) ?_
        refine lv_iload_n hx hb d_D_drop_95 rfl (lv_at hl 1 rfl) ?_
        refine pf_D_38 hB hP hD hS 0 rfl (Nat.le_of_ble_eq_true rfl) d_D_drop_96 (fun H locs hP hD hS => ?_)
        have hP : va_P D classes (dW cs ad sz (-1) pw (ol + d) (nx + 1) ((en + nd 0) % 40) rc b t1 Tp (va_up eA nx en) (va_up eS nx 0) (va_up eN nx (-1)) R) H := hP
        have hD : va_D A (dW cs ad sz (-1) pw (ol + d) (nx + 1) ((en + nd 0) % 40) rc b t1 Tp (va_up eA nx en) (va_up eS nx 0) (va_up eN nx (-1)) R) := hD
        refine lv_aload_n hx hb d_D_drop_99 rfl (lv_at hl 0 rfl) ?_
        refine x_cSi (As := []) (rest := []) (n := 0) hB (c_D_many l (by omega) (by omega)) gi_D_96 (by decide +kernel) rfl rfl ⟨Nat.le_of_ble_eq_true rfl, Nat.le_of_ble_eq_true rfl⟩ hP hD 0 rfl rfl hl.1 rfl (Nat.le_of_ble_eq_true rfl) d_D_drop_100 ⟨Nat.le_of_ble_eq_true rfl, Nat.le_of_ble_eq_true rfl⟩ (fun r hr => ?_)
        subst hr
        exact r_iQ hB hr0 hlk hP hD hS ⟨d, b, t1, rfl, hkp, rfl, hwr⟩ d_D_drop_103
      · skip
        refine lv_iload_n hx hb d_D_drop_37 rfl (lv_at hl 2 rfl) ?_
        refine n_if_gt hx hb (by omega) (tgt := 54) d_D_drop_38 (by decide) (fun hc38 => ?_) (fun hc38 => ?_)
        · skip
          refine lv_iload_n hx hb d_D_drop_54 rfl (lv_at hl 2 rfl) ?_
          refine lv_aload_n hx hb d_D_drop_55 rfl (lv_at hl 0 rfl) ?_
          refine gf_D_30 (v := .ref (ad 5)) hB hP 0 rfl rfl d_D_drop_56 ?_
          refine lv_iload_n hx hb d_D_drop_59 rfl (lv_at hl 1 rfl) ?_
          refine n_aldq (f := fun j => ad (j + 6)) hx hb hK hP 5 2 rfl rfl (by omega) (by decide) d_D_drop_60 ?_
          refine W.eq (g2 := F0 m 61 ls [.ref (ad ((ol + d) + 6)), .int (nI i)]) rfl ?_
          refine gf_D_48 (v := .int (eN (ol + d))) hB hP ((ol + d) + 6) (dW_e (by omega)) rfl d_D_drop_61 ?_
          refine lv_iconst (v := (-1)) hx hb d_D_drop_64 (by decide) ?_
          refine lv_icmp_eq (tgt := 72) hx hb d_D_drop_65 (by decide) (fun hc65 => ?_) (fun hc65 => ?_)
          · skip
            refine lv_iconst (v := nI 0) hx hb d_D_drop_72 (by decide) ?_
            refine n_sub hx hb (by omega) d_D_drop_73 ?_
            refine lv_istore_n (lv' := [(3, .int (nI (i - 0))), (0, .ref (ad 0)), (2, .int (nI (ol + d)))]) hx hb d_D_drop_74 rfl hl (by decide) rfl (fun ls hl => ?_)
            refine n_inc (d := 1) (k := 2) (lv' := [(2, .int (nI ((ol + d) + 1))), (3, .int (nI (i - 0))), (0, .ref (ad 0))]) hx hb d_D_drop_75 (by decide) hl rfl (by decide) rfl (fun ls hl => ?_)
            refine lv_goto (tgt := 29) hx hb d_D_drop_78 (by decide) ?_
            have hmd : mn eN ol (d + 1) = mn eN ol d + 0 := by show mn eN ol d + (if eN (ol + d) = -1 then 0 else 1) = _; rw [if_pos hc65]
            exact ih (d + 1) (i - 0) (by omega) (by omega) (by omega) (by omega) _ _ hP hD hS ls (lv_sub hl [2, 0, 1] rfl)
          · skip
            refine lv_iconst (v := nI 1) hx hb d_D_drop_68 (by decide) ?_
            refine lv_goto (tgt := 73) hx hb d_D_drop_69 (by decide) ?_
            refine n_sub hx hb (by omega) d_D_drop_73 ?_
            refine lv_istore_n (lv' := [(3, .int (nI (i - 1))), (0, .ref (ad 0)), (2, .int (nI (ol + d)))]) hx hb d_D_drop_74 rfl hl (by decide) rfl (fun ls hl => ?_)
            refine n_inc (d := 1) (k := 2) (lv' := [(2, .int (nI ((ol + d) + 1))), (3, .int (nI (i - 1))), (0, .ref (ad 0))]) hx hb d_D_drop_75 (by decide) hl rfl (by decide) rfl (fun ls hl => ?_)
            refine lv_goto (tgt := 29) hx hb d_D_drop_78 (by decide) ?_
            have hmd : mn eN ol (d + 1) = mn eN ol d + 1 := by show mn eN ol d + (if eN (ol + d) = -1 then 0 else 1) = _; rw [if_neg hc65]
            exact ih (d + 1) (i - 1) (by omega) (by omega) (by omega) (by omega) _ _ hP hD hS ls (lv_sub hl [2, 0, 1] rfl)
        · skip
          refine lv_aload_n hx hb d_D_drop_41 rfl (lv_at hl 0 rfl) ?_
          refine gf_D_30 (v := .ref (ad 5)) hB hP 0 rfl rfl d_D_drop_42 ?_
          refine lv_iload_n hx hb d_D_drop_45 rfl (lv_at hl 1 rfl) ?_
          refine n_aldq (f := fun j => ad (j + 6)) hx hb hK hP 5 2 rfl rfl (by omega) (by decide) d_D_drop_46 ?_
          refine W.eq (g2 := F0 m 47 ls [.ref (ad ((ol + d) + 6))]) rfl ?_
          refine gf_D_48 (v := .int (eN (ol + d))) hB hP ((ol + d) + 6) (dW_e (by omega)) rfl d_D_drop_47 ?_
          refine lv_iconst (v := (-1)) hx hb d_D_drop_50 (by decide) ?_
          refine lv_icmp_ne (tgt := 81) hx hb d_D_drop_51 (by decide) (fun hc51 => ?_) (fun hc51 => ?_)
          · skip
            have hkp : ol + d ≤ nx ∧ mn eN ol d = j ∧ (ol + d = nx ∨ ¬ eN (ol + d) = -1) := ⟨hd, by omega, Or.inr hc51⟩
            refine lv_aload_n hx hb d_D_drop_81 rfl (lv_at hl 0 rfl) ?_
            refine lv_iconst (v := nI 0) hx hb d_D_drop_82 (by decide) ?_
            refine lv_iload_n hx hb d_D_drop_83 rfl (lv_at hl 1 rfl) ?_
            refine lv_iconst (v := (-1)) hx hb d_D_drop_84 (by decide) ?_
            refine x_cQi (As := [.int (nI 0), .int (nI (ol + d)), .int (-1)]) (rest := []) (n := 3) hB (c_D_append l (cu := 0) (bs := 0) (ke := ol + d) (nu := -1) (q := 0) (rq := rq) h2 he (by omega) (by omega) (by omega) hrc) gi_D_92 (by decide +kernel) rfl rfl ⟨Nat.le_of_ble_eq_true rfl, Nat.le_of_ble_eq_true rfl⟩ hP hD hS 0 rfl rfl hl.1 rfl (Nat.le_of_ble_eq_true rfl) d_D_drop_85 ⟨Nat.le_of_ble_eq_true rfl, Nat.le_of_ble_eq_true rfl⟩ (fun r w H locs hw hP hD hS => ?_)
            obtain ⟨rfl, b, t1, rfl, hwr⟩ := hw
            refine tp_i (y := nI 1) rfl ?_
            refine n_if_ne hx hb (by omega) (tgt := 94) d_D_drop_88 (by decide) (fun _ => ?_) (fun h => absurd h (by decide))
            refine lv_aload_n hx hb d_D_drop_94 rfl (lv_at hl 0 rfl) ?_
            refine lv_iload_n hx hb d_D_drop_95 rfl (lv_at hl 1 rfl) ?_
            refine pf_D_38 hB hP hD hS 0 rfl (Nat.le_of_ble_eq_true rfl) d_D_drop_96 (fun H locs hP hD hS => ?_)
            have hP : va_P D classes (dW cs ad sz (-1) pw (ol + d) (nx + 1) ((en + nd 0) % 40) rc b t1 Tp (va_up eA nx en) (va_up eS nx 0) (va_up eN nx (-1)) R) H := hP
            have hD : va_D A (dW cs ad sz (-1) pw (ol + d) (nx + 1) ((en + nd 0) % 40) rc b t1 Tp (va_up eA nx en) (va_up eS nx 0) (va_up eN nx (-1)) R) := hD
            refine lv_aload_n hx hb d_D_drop_99 rfl (lv_at hl 0 rfl) ?_
            refine x_cSi (As := []) (rest := []) (n := 0) hB (c_D_many l (by omega) (by omega)) gi_D_96 (by decide +kernel) rfl rfl ⟨Nat.le_of_ble_eq_true rfl, Nat.le_of_ble_eq_true rfl⟩ hP hD 0 rfl rfl hl.1 rfl (Nat.le_of_ble_eq_true rfl) d_D_drop_100 ⟨Nat.le_of_ble_eq_true rfl, Nat.le_of_ble_eq_true rfl⟩ (fun r hr => ?_)
            subst hr
            exact r_iQ hB hr0 hlk hP hD hS ⟨d, b, t1, rfl, hkp, rfl, hwr⟩ d_D_drop_103
          · skip
            refine lv_iload_n hx hb d_D_drop_54 rfl (lv_at hl 2 rfl) ?_
            refine lv_aload_n hx hb d_D_drop_55 rfl (lv_at hl 0 rfl) ?_
            refine gf_D_30 (v := .ref (ad 5)) hB hP 0 rfl rfl d_D_drop_56 ?_
            refine lv_iload_n hx hb d_D_drop_59 rfl (lv_at hl 1 rfl) ?_
            refine n_aldq (f := fun j => ad (j + 6)) hx hb hK hP 5 2 rfl rfl (by omega) (by decide) d_D_drop_60 ?_
            refine W.eq (g2 := F0 m 61 ls [.ref (ad ((ol + d) + 6)), .int (nI i)]) rfl ?_
            refine gf_D_48 (v := .int (eN (ol + d))) hB hP ((ol + d) + 6) (dW_e (by omega)) rfl d_D_drop_61 ?_
            refine lv_iconst (v := (-1)) hx hb d_D_drop_64 (by decide) ?_
            refine lv_icmp_eq (tgt := 72) hx hb d_D_drop_65 (by decide) (fun hc65 => ?_) (fun hc65 => (absurd hc51 hc65))
            refine lv_iconst (v := nI 0) hx hb d_D_drop_72 (by decide) ?_
            refine n_sub hx hb (by omega) d_D_drop_73 ?_
            refine lv_istore_n (lv' := [(3, .int (nI (i - 0))), (0, .ref (ad 0)), (2, .int (nI (ol + d)))]) hx hb d_D_drop_74 rfl hl (by decide) rfl (fun ls hl => ?_)
            refine n_inc (d := 1) (k := 2) (lv' := [(2, .int (nI ((ol + d) + 1))), (3, .int (nI (i - 0))), (0, .ref (ad 0))]) hx hb d_D_drop_75 (by decide) hl rfl (by decide) rfl (fun ls hl => ?_)
            refine lv_goto (tgt := 29) hx hb d_D_drop_78 (by decide) ?_
            have hmd : mn eN ol (d + 1) = mn eN ol d + 0 := by show mn eN ol d + (if eN (ol + d) = -1 then 0 else 1) = _; rw [if_pos hc65]
            exact ih (d + 1) (i - 0) (by omega) (by omega) (by omega) (by omega) _ _ hP hD hS ls (lv_sub hl [2, 0, 1] rfl)
  exact loop (nx + 1) 0 j (by omega) rfl (by omega) (by omega) _ _ hP hD hS ls (lv_sub hl [2, 1, 0] rfl)
set_option maxHeartbeats 4000000 in
set_option maxRecDepth 100000 in
/-- drop: the power goes -/
theorem c_D_dropC (l : Launch) {D : va_G} {A : Nat → Prop} {cs : Nat → ClassId} {ad : Nat → Nat} {sz : Nat} {cu pw : Int32} {ol nx en : Nat} {rc : Int32} {B Rt Tp : Nat → Int32} {eA eS : Nat → Nat} {eN : Nat → Int32} {R : va_W} {q rq j : Nat} (h1 : ol ≤ nx) (h2 : nx < 520) (hs : ∀ k, eS k ≤ 100) (he : en < 40) (hrq : rq < 65535) (hrc : rc = nI rq) (hj : j ≤ mn eN ol (nx - ol)) (h : ¬ pw = 0 ∧ us eS ol (nx - ol) + 1 ≤ 40) (hq : q ≤ 8) : Met l y_D_drop (Cond.code y_D_drop b_D_drop 4 (some .int) :: gw) (rmn 4) (va_Pc [.ref (ad 0), .int (nI j)] (St D cs A (dW cs ad sz (nI q) pw ol nx en rc B Rt Tp eA eS eN R))) (QI D A (fun r z => r = -2 ∧ ∃ (d : Nat) (B1 R1 : Nat → Int32), (ol + d ≤ nx ∧ mn eN ol d = j ∧ (ol + d = nx ∨ ¬ eN (ol + d) = -1)) ∧ z = dW cs ad sz (-1) (nI 0) ol nx en rc B1 (upd R1 ((en + (min q (nd 0 - 1))) % 40) (nI 0)) Tp (va_up eA nx en) (va_up eS nx 0) (va_up eN nx (-1)) R ∧ wrote B Rt B1 R1 en nx (min q (nd 0 - 1)) 0 (ol + d) (-1) rc Tp)) 0 0 A := by
  refine x_start (by decide) (Nat.le_of_ble_eq_true rfl) ?_
  intro p e s m below meth c hB hr hlk hin hP hD ls hl
  have hx := hB.1
  have hb := hB.2.1
  have hown := hB.2.2.2.1
  have hts := hB.2.2.2.2.1
  have hK := hB.2.2.2.2.2.1
  have hS : va_S A s.heap s.heap [] := va_S.rf
  have hl : lv_has ls 4 [(0, .ref (ad 0)), (1, .int (nI j))] := hl
  have hr0 := hr
  have hml := mn_le eN ol (nx - ol)
  have hU := us_le eS ol (nx - ol) (fun j _ => hs _)
  refine lv_aload_n hx hb d_D_drop_0 rfl (lv_at hl 0 rfl) ?_
  refine lv_iconst (v := nI 1) hx hb d_D_drop_1 (by decide) ?_
  refine x_cSi (As := [.int (nI 1)]) (rest := []) (n := 1) hB (c_D_hasRoom l (n := 1) h1 (by omega) hs (by omega)) gi_D_88 (by decide +kernel) rfl rfl ⟨Nat.le_of_ble_eq_true rfl, Nat.le_of_ble_eq_true rfl⟩ hP hD 0 rfl rfl hl.1 rfl (Nat.le_of_ble_eq_true rfl) d_D_drop_2 ⟨Nat.le_of_ble_eq_true rfl, Nat.le_of_ble_eq_true rfl⟩ (fun r hr => ?_)
  subst hr
  refine tp_i (y := nI 1) (by rw [if_pos h]) ?_
  refine n_if_eq hx hb (by omega) (tgt := 20) d_D_drop_5 (by decide) (fun h => absurd h (by decide)) (fun _ => ?_)
  refine lv_iload_n hx hb d_D_drop_8 rfl (lv_at hl 1 rfl) ?_
  refine n_if_lt hx hb (by omega) (tgt := 20) d_D_drop_9 (by decide) ?_
  refine lv_iload_n hx hb d_D_drop_12 rfl (lv_at hl 1 rfl) ?_
  refine lv_aload_n hx hb d_D_drop_13 rfl (lv_at hl 0 rfl) ?_
  refine x_cSi (As := []) (rest := [.int (nI j)]) (n := 0) hB (c_D_many l h1 (by omega)) gi_D_96 (by decide +kernel) rfl rfl ⟨Nat.le_of_ble_eq_true rfl, Nat.le_of_ble_eq_true rfl⟩ hP hD 0 rfl rfl hl.1 rfl (Nat.le_of_ble_eq_true rfl) d_D_drop_14 ⟨Nat.le_of_ble_eq_true rfl, Nat.le_of_ble_eq_true rfl⟩ (fun r hr => ?_)
  subst hr
  refine n_icmp_le hx hb (by omega) (by omega) (tgt := 22) d_D_drop_17 (by decide) (fun hc17 => ?_) (fun hc17 => (absurd hc17 (by omega)))
  refine lv_aload_n hx hb d_D_drop_22 rfl (lv_at hl 0 rfl) ?_
  refine gf_D_38 (v := .int (nI ol)) hB hP 0 rfl rfl d_D_drop_23 ?_
  refine lv_istore_n (lv' := [(2, .int (nI ol)), (0, .ref (ad 0)), (1, .int (nI j))]) hx hb d_D_drop_26 rfl hl (by decide) rfl (fun ls hl => ?_)
  refine lv_iload_n hx hb d_D_drop_27 rfl (lv_at hl 2 rfl) ?_
  refine lv_istore_n (lv' := [(3, .int (nI j)), (2, .int (nI ol)), (0, .ref (ad 0)), (1, .int (nI j))]) hx hb d_D_drop_28 rfl hl (by decide) rfl (fun ls hl => ?_)
  have loop : ∀ (n : Nat) (d : Nat) (i : Nat), (ol + d ≤ nx) → (i + mn eN ol d = j) → (i < 2 ^ 31) → (nx + 1 ≤ ol + d + n) → ∀ (H : Heap) (locs : List Loc), va_P D classes (dW cs ad sz (nI q) pw ol nx en rc B Rt Tp eA eS eN R) H → va_D A (dW cs ad sz (nI q) pw ol nx en rc B Rt Tp eA eS eN R) → va_S A s.heap H locs → ∀ ls : Array Slot, lv_has ls 4 [(0, .ref (ad 0)), (2, .int (nI (ol + d))), (3, .int (nI i))] → W p l e (rmn 4) s m ([.ref (ad 0), .int (nI j)] : List Value).toArray below meth c H locs 0 0 (MQ below (QI D A (fun r z => r = -2 ∧ ∃ (d : Nat) (B1 R1 : Nat → Int32), (ol + d ≤ nx ∧ mn eN ol d = j ∧ (ol + d = nx ∨ ¬ eN (ol + d) = -1)) ∧ z = dW cs ad sz (-1) (nI 0) ol nx en rc B1 (upd R1 ((en + (min q (nd 0 - 1))) % 40) (nI 0)) Tp (va_up eA nx en) (va_up eS nx 0) (va_up eN nx (-1)) R ∧ wrote B Rt B1 R1 en nx (min q (nd 0 - 1)) 0 (ol + d) (-1) rc Tp)) ([.ref (ad 0), .int (nI j)] : List Value).toArray s 0 0 A) (F0 m 29 ls []) := by
    intro n
    induction n with
    | zero => intro d i hd hi hi3 hm; exfalso; omega
    | succ n ih =>
      intro d i hd hi hi3 hm H locs hP hD hS ls hl
      refine lv_iload_n hx hb d_D_drop_29 rfl (lv_at hl 1 rfl) ?_
      refine lv_aload_n hx hb d_D_drop_30 rfl (lv_at hl 0 rfl) ?_
      refine gf_D_41 (v := .int (nI nx)) hB hP 0 rfl rfl d_D_drop_31 ?_
      refine n_icmp_ge hx hb (by omega) (by omega) (tgt := 81) d_D_drop_34 (by decide) (fun hc34 => ?_) (fun hc34 => ?_)
      · skip
        have hdn : ol + d = nx := by omega
        have hdd : d = nx - ol := by omega
        have hkp : ol + d ≤ nx ∧ mn eN ol d = j ∧ (ol + d = nx ∨ ¬ eN (ol + d) = -1) := ⟨hd, by rw [← hdd] at hj; omega, Or.inl hdn⟩
        refine lv_aload_n hx hb d_D_drop_81 rfl (lv_at hl 0 rfl) ?_
        refine lv_iconst (v := nI 0) hx hb d_D_drop_82 (by decide) ?_
        refine lv_iload_n hx hb d_D_drop_83 rfl (lv_at hl 1 rfl) ?_
        refine lv_iconst (v := (-1)) hx hb d_D_drop_84 (by decide) ?_
        refine x_cQi (As := [.int (nI 0), .int (nI (ol + d)), .int (-1)]) (rest := []) (n := 3) hB (c_D_appendC l (cu := 0) (bs := 0) (ke := ol + d) (nu := -1) (q := q) (rq := rq) h2 he (by omega) (by omega) (by omega) hrc hq) gi_D_92 (by decide +kernel) rfl rfl ⟨Nat.le_of_ble_eq_true rfl, Nat.le_of_ble_eq_true rfl⟩ hP hD hS 0 rfl rfl hl.1 rfl (Nat.le_of_ble_eq_true rfl) d_D_drop_85 ⟨Nat.le_of_ble_eq_true rfl, Nat.le_of_ble_eq_true rfl⟩ (fun r w H locs hw hP hD hS => ?_)
        obtain ⟨rfl, b, t1, rfl, hwr⟩ := hw
        refine tp_i (y := nI 0) rfl ?_
        refine n_if_ne hx hb (by omega) (tgt := 94) d_D_drop_88 (by decide) (fun h => absurd h (by decide)) (fun _ => ?_)
        refine lv_bipush (v := (-2)) hx hb d_D_drop_91 (by decide) ?_
        exact r_iQ hB hr0 hlk hP hD hS ⟨rfl, d, b, t1, hkp, rfl, hwr⟩ d_D_drop_93
      · skip
        refine lv_iload_n hx hb d_D_drop_37 rfl (lv_at hl 2 rfl) ?_
        refine n_if_gt hx hb (by omega) (tgt := 54) d_D_drop_38 (by decide) (fun hc38 => ?_) (fun hc38 => ?_)
        · skip
          refine lv_iload_n hx hb d_D_drop_54 rfl (lv_at hl 2 rfl) ?_
          refine lv_aload_n hx hb d_D_drop_55 rfl (lv_at hl 0 rfl) ?_
          refine gf_D_30 (v := .ref (ad 5)) hB hP 0 rfl rfl d_D_drop_56 ?_
          refine lv_iload_n hx hb d_D_drop_59 rfl (lv_at hl 1 rfl) ?_
          refine n_aldq (f := fun j => ad (j + 6)) hx hb hK hP 5 2 rfl rfl (by omega) (by decide) d_D_drop_60 ?_
          refine W.eq (g2 := F0 m 61 ls [.ref (ad ((ol + d) + 6)), .int (nI i)]) rfl ?_
          refine gf_D_48 (v := .int (eN (ol + d))) hB hP ((ol + d) + 6) (dW_e (by omega)) rfl d_D_drop_61 ?_
          refine lv_iconst (v := (-1)) hx hb d_D_drop_64 (by decide) ?_
          refine lv_icmp_eq (tgt := 72) hx hb d_D_drop_65 (by decide) (fun hc65 => ?_) (fun hc65 => ?_)
          · skip
            refine lv_iconst (v := nI 0) hx hb d_D_drop_72 (by decide) ?_
            refine n_sub hx hb (by omega) d_D_drop_73 ?_
            refine lv_istore_n (lv' := [(3, .int (nI (i - 0))), (0, .ref (ad 0)), (2, .int (nI (ol + d)))]) hx hb d_D_drop_74 rfl hl (by decide) rfl (fun ls hl => ?_)
            refine n_inc (d := 1) (k := 2) (lv' := [(2, .int (nI ((ol + d) + 1))), (3, .int (nI (i - 0))), (0, .ref (ad 0))]) hx hb d_D_drop_75 (by decide) hl rfl (by decide) rfl (fun ls hl => ?_)
            refine lv_goto (tgt := 29) hx hb d_D_drop_78 (by decide) ?_
            have hmd : mn eN ol (d + 1) = mn eN ol d + 0 := by show mn eN ol d + (if eN (ol + d) = -1 then 0 else 1) = _; rw [if_pos hc65]
            exact ih (d + 1) (i - 0) (by omega) (by omega) (by omega) (by omega) _ _ hP hD hS ls (lv_sub hl [2, 0, 1] rfl)
          · skip
            refine lv_iconst (v := nI 1) hx hb d_D_drop_68 (by decide) ?_
            refine lv_goto (tgt := 73) hx hb d_D_drop_69 (by decide) ?_
            refine n_sub hx hb (by omega) d_D_drop_73 ?_
            refine lv_istore_n (lv' := [(3, .int (nI (i - 1))), (0, .ref (ad 0)), (2, .int (nI (ol + d)))]) hx hb d_D_drop_74 rfl hl (by decide) rfl (fun ls hl => ?_)
            refine n_inc (d := 1) (k := 2) (lv' := [(2, .int (nI ((ol + d) + 1))), (3, .int (nI (i - 1))), (0, .ref (ad 0))]) hx hb d_D_drop_75 (by decide) hl rfl (by decide) rfl (fun ls hl => ?_)
            refine lv_goto (tgt := 29) hx hb d_D_drop_78 (by decide) ?_
            have hmd : mn eN ol (d + 1) = mn eN ol d + 1 := by show mn eN ol d + (if eN (ol + d) = -1 then 0 else 1) = _; rw [if_neg hc65]
            exact ih (d + 1) (i - 1) (by omega) (by omega) (by omega) (by omega) _ _ hP hD hS ls (lv_sub hl [2, 0, 1] rfl)
        · skip
          refine lv_aload_n hx hb d_D_drop_41 rfl (lv_at hl 0 rfl) ?_
          refine gf_D_30 (v := .ref (ad 5)) hB hP 0 rfl rfl d_D_drop_42 ?_
          refine lv_iload_n hx hb d_D_drop_45 rfl (lv_at hl 1 rfl) ?_
          refine n_aldq (f := fun j => ad (j + 6)) hx hb hK hP 5 2 rfl rfl (by omega) (by decide) d_D_drop_46 ?_
          refine W.eq (g2 := F0 m 47 ls [.ref (ad ((ol + d) + 6))]) rfl ?_
          refine gf_D_48 (v := .int (eN (ol + d))) hB hP ((ol + d) + 6) (dW_e (by omega)) rfl d_D_drop_47 ?_
          refine lv_iconst (v := (-1)) hx hb d_D_drop_50 (by decide) ?_
          refine lv_icmp_ne (tgt := 81) hx hb d_D_drop_51 (by decide) (fun hc51 => ?_) (fun hc51 => ?_)
          · skip
            have hkp : ol + d ≤ nx ∧ mn eN ol d = j ∧ (ol + d = nx ∨ ¬ eN (ol + d) = -1) := ⟨hd, by omega, Or.inr hc51⟩
            refine lv_aload_n hx hb d_D_drop_81 rfl (lv_at hl 0 rfl) ?_
            refine lv_iconst (v := nI 0) hx hb d_D_drop_82 (by decide) ?_
            refine lv_iload_n hx hb d_D_drop_83 rfl (lv_at hl 1 rfl) ?_
            refine lv_iconst (v := (-1)) hx hb d_D_drop_84 (by decide) ?_
            refine x_cQi (As := [.int (nI 0), .int (nI (ol + d)), .int (-1)]) (rest := []) (n := 3) hB (c_D_appendC l (cu := 0) (bs := 0) (ke := ol + d) (nu := -1) (q := q) (rq := rq) h2 he (by omega) (by omega) (by omega) hrc hq) gi_D_92 (by decide +kernel) rfl rfl ⟨Nat.le_of_ble_eq_true rfl, Nat.le_of_ble_eq_true rfl⟩ hP hD hS 0 rfl rfl hl.1 rfl (Nat.le_of_ble_eq_true rfl) d_D_drop_85 ⟨Nat.le_of_ble_eq_true rfl, Nat.le_of_ble_eq_true rfl⟩ (fun r w H locs hw hP hD hS => ?_)
            obtain ⟨rfl, b, t1, rfl, hwr⟩ := hw
            refine tp_i (y := nI 0) rfl ?_
            refine n_if_ne hx hb (by omega) (tgt := 94) d_D_drop_88 (by decide) (fun h => absurd h (by decide)) (fun _ => ?_)
            refine lv_bipush (v := (-2)) hx hb d_D_drop_91 (by decide) ?_
            exact r_iQ hB hr0 hlk hP hD hS ⟨rfl, d, b, t1, hkp, rfl, hwr⟩ d_D_drop_93
          · skip
            refine lv_iload_n hx hb d_D_drop_54 rfl (lv_at hl 2 rfl) ?_
            refine lv_aload_n hx hb d_D_drop_55 rfl (lv_at hl 0 rfl) ?_
            refine gf_D_30 (v := .ref (ad 5)) hB hP 0 rfl rfl d_D_drop_56 ?_
            refine lv_iload_n hx hb d_D_drop_59 rfl (lv_at hl 1 rfl) ?_
            refine n_aldq (f := fun j => ad (j + 6)) hx hb hK hP 5 2 rfl rfl (by omega) (by decide) d_D_drop_60 ?_
            refine W.eq (g2 := F0 m 61 ls [.ref (ad ((ol + d) + 6)), .int (nI i)]) rfl ?_
            refine gf_D_48 (v := .int (eN (ol + d))) hB hP ((ol + d) + 6) (dW_e (by omega)) rfl d_D_drop_61 ?_
            refine lv_iconst (v := (-1)) hx hb d_D_drop_64 (by decide) ?_
            refine lv_icmp_eq (tgt := 72) hx hb d_D_drop_65 (by decide) (fun hc65 => ?_) (fun hc65 => (absurd hc51 hc65))
            refine lv_iconst (v := nI 0) hx hb d_D_drop_72 (by decide) ?_
            refine n_sub hx hb (by omega) d_D_drop_73 ?_
            refine lv_istore_n (lv' := [(3, .int (nI (i - 0))), (0, .ref (ad 0)), (2, .int (nI (ol + d)))]) hx hb d_D_drop_74 rfl hl (by decide) rfl (fun ls hl => ?_)
            refine n_inc (d := 1) (k := 2) (lv' := [(2, .int (nI ((ol + d) + 1))), (3, .int (nI (i - 0))), (0, .ref (ad 0))]) hx hb d_D_drop_75 (by decide) hl rfl (by decide) rfl (fun ls hl => ?_)
            refine lv_goto (tgt := 29) hx hb d_D_drop_78 (by decide) ?_
            have hmd : mn eN ol (d + 1) = mn eN ol d + 0 := by show mn eN ol d + (if eN (ol + d) = -1 then 0 else 1) = _; rw [if_pos hc65]
            exact ih (d + 1) (i - 0) (by omega) (by omega) (by omega) (by omega) _ _ hP hD hS ls (lv_sub hl [2, 0, 1] rfl)
  exact loop (nx + 1) 0 j (by omega) rfl (by omega) (by omega) _ _ hP hD hS ls (lv_sub hl [2, 1, 0] rfl)
end
section
/-! the desk's invariant, in plain words -/
def dI (ol nx en rq : Nat) (B Rt : Nat → Int32) (eA eS : Nat → Nat) (eN : Nat → Int32) : Prop :=
  (ol ≤ nx ∧ en < 40 ∧ rq ≤ nx ∧ (∀ k, eS k ≤ 100) ∧ (∀ k, eA k < 40)) ∧ (nx = 0 → en = 0 ∧ rq = 0) ∧ (0 < nx → ol < nx) ∧ us eS ol (nx - ol) ≤ 40 ∧
  (∀ d, ol + d < nx → eA (ol + d) = (eA ol + us eS ol d) % 40) ∧ (ol < nx → en = (eA ol + us eS ol (nx - ol)) % 40) ∧
  (∀ k, ol ≤ k → k < nx → (∀ p, p < nd (eS k) → okS B Rt (nI k) ((eA k + p) % 40) p) ∧ r1 B (eA k) 3 = (if eN k = -1 then nI 255 else nI (eS k)) ∧ (eN k = -1 → eS k = 0) ∧ (¬ eN k = -1 → r2 B (eA k) 6 = eN k)) ∧
  (0 < nx → r2 B (eA (nx - 1)) 4 = nI ol ∧ r2 B (eA (nx - 1)) 6 + (if eN (nx - 1) = -1 then 0 else 1) = nI rq) ∧
  (∀ t, t < 40 → ¬ Rt t = 0 → ∃ e, e ≤ nx ∧ r2 B t 0 = nI e ∧ (ol ≤ e → r1 B t 2 = 0 → t = (if e < nx then eA e else en))) ∧
  ¬ wa B Rt (nI nx) en
section DI
variable {ol nx en rq : Nat} {B Rt : Nat → Int32} {eA eS : Nat → Nat} {eN : Nat → Int32}
theorem dI_sza (h : dI ol nx en rq B Rt eA eS eN) {k : Nat} (h1 : ol ≤ k) (h2 : k < nx) : sza B (eA k) = eS k := by
  obtain ⟨⟨-, -, -, hs, -⟩, -, -, -, -, -, hk, -⟩ := h
  obtain ⟨-, h3, h4, -⟩ := hk k h1 h2
  have hsk := hs k
  by_cases q : eN k = -1
  · rw [if_pos q] at h3
    rw [h4 q]
    exact sza_t (by rw [h3]; rfl)
  · rw [if_neg q] at h3
    unfold sza
    rw [h3, if_neg (by
      intro z
      have := (nI_eq (a := eS k) (b := 255) (by omega) (by omega)).mp z
      omega), nI_clamp (by omega)]
theorem dI_drop (h : dI ol nx en rq B Rt eA eS eN) {k : Nat} (h1 : ol ≤ k) (h2 : k < nx) : r1 B (eA k) 3 = 255 ↔ eN k = -1 := by
  obtain ⟨⟨-, -, -, hs, -⟩, -, -, -, -, -, hk, -⟩ := h
  obtain ⟨-, h3, -, -⟩ := hk k h1 h2
  have hsk := hs k
  rw [h3]
  constructor
  · intro z
    by_cases q : eN k = -1
    · exact q
    · rw [if_neg q] at z
      have := (nI_eq (a := eS k) (b := 255) (by omega) (by omega)).mp z
      omega
  · intro q
    rw [if_pos q]
    rfl
theorem dI_wa (h : dI ol nx en rq B Rt eA eS eN) {k : Nat} (h1 : ol ≤ k) (h2 : k < nx) : wa B Rt (nI k) (eA k) := by
  have hz := dI_sza h h1 h2
  obtain ⟨⟨-, -, -, -, ha⟩, -, -, -, -, -, hk, -⟩ := h
  have h3 := (hk k h1 h2).1
  have h0 := h3 0 (by have := nd_pos (eS k); omega)
  have hak := ha k
  rw [Nat.add_zero, Nat.mod_eq_of_lt hak] at h0
  exact ⟨h0.1, h0.2.1, h0.2.2, fun p hp => h3 p (by rw [hz] at hp; exact hp)⟩
theorem dI_one (h : dI ol nx en rq B Rt eA eS eN) (hn : nx < 2 ^ 31) {k i : Nat} (h1 : ol ≤ k) (h2 : k < nx) (hi : i < 40) (hw : wa B Rt (nI k) i) : i = eA k := by
  obtain ⟨-, -, -, -, -, -, -, -, hst, -⟩ := h
  obtain ⟨e, he, h3, h4⟩ := hst i hi hw.1
  have : e = k := (nI_eq (by omega) (by omega)).mp (h3.symm.trans hw.2.1)
  subst this
  have := h4 h1 hw.2.2.1
  rwa [if_pos h2] at this
theorem dI_none (h : dI ol nx en rq B Rt eA eS eN) (hn : nx < 2 ^ 31) {i : Nat} (hi : i < 40) (hw : wa B Rt (nI nx) i) : False := by
  obtain ⟨⟨h1, -⟩, -, -, -, -, -, -, -, hst, hno⟩ := h
  obtain ⟨e, he, h3, h4⟩ := hst i hi hw.1
  have : e = nx := (nI_eq (by omega) (by omega)).mp (h3.symm.trans hw.2.1)
  subst this
  have := h4 h1 hw.2.2.1
  rw [if_neg (Nat.lt_irrefl _)] at this
  subst this
  exact hno hw
/-- what 'whole' answers for an entry that is kept -/
theorem dI_whole (h : dI ol nx en rq B Rt eA eS eN) (hn : nx < 2 ^ 31) {k : Nat} {r : Int32} (h1 : ol ≤ k) (h2 : k < nx) (hr : (∃ i, i < 40 ∧ r = nI i ∧ wa B Rt (nI k) i) ∨ (r = -1 ∧ ∀ i, i < 40 → ¬ wa B Rt (nI k) i)) : r = nI (eA k) := by
  rcases hr with ⟨i, hi, rfl, hw⟩ | ⟨-, hno⟩
  · rw [dI_one h hn h1 h2 hi hw]
  · exact absurd (dI_wa h h1 h2) (hno _ (h.1.2.2.2.2 k))
/-- the first loop of start: the latest whole entry so far -/
def lastI (nx : Nat) (eA : Nat → Nat) (last : Int32) (t : Nat) : Prop := (last = -1 ∨ ∃ e, e < nx ∧ last = nI e) ∧ (0 < nx → eA (nx - 1) < t → last = nI (nx - 1))
theorem last_keep {last : Int32} {t : Nat} (hl : lastI nx eA last t) (hk : 0 < nx → eA (nx - 1) = t → last = nI (nx - 1)) : lastI nx eA last (t + 1) := by
  refine ⟨hl.1, fun h0 h1 => ?_⟩
  by_cases q : eA (nx - 1) = t
  · exact hk h0 q
  · exact hl.2 h0 (by omega)
theorem last_1 (h : dI ol nx en rq B Rt eA eS eN) {last : Int32} {t : Nat} (hl : lastI nx eA last t) (hr : Rt t = 0) : lastI nx eA last (t + 1) := by
  refine last_keep hl (fun h0 e => ?_)
  have hw := dI_wa h (k := nx - 1) (by have := h.2.2.1 h0; omega) (by omega)
  rw [e] at hw
  exact absurd hr hw.1
theorem last_2 (h : dI ol nx en rq B Rt eA eS eN) (hn : nx < 2 ^ 31) {last : Int32} {t : Nat} (hl : lastI nx eA last t) (hr : r2 B t 0 ≤ last) : lastI nx eA last (t + 1) := by
  refine last_keep hl (fun h0 e => ?_)
  have hw := dI_wa h (k := nx - 1) (by have := h.2.2.1 h0; omega) (by omega)
  rw [e] at hw
  rw [hw.2.1] at hr
  rcases hl.1 with q | ⟨e2, h1, h2⟩
  · subst q
    have h3 := Int32.le_iff_toInt_le.mp hr
    rw [nI_toInt (by omega)] at h3
    have h4 : ((-1 : Int32)).toInt = -1 := by decide
    omega
  · subst h2
    have h3 := (nI_leI (by omega) (by omega)).mp hr
    rw [show e2 = nx - 1 by omega]
theorem last_3 (h : dI ol nx en rq B Rt eA eS eN) {last : Int32} {t : Nat} (ht : t < 40) (hl : lastI nx eA last t) (hr : ∀ i, i < 40 → ¬ wa B Rt (r2 B t 0) i) : lastI nx eA last (t + 1) := by
  refine last_keep hl (fun h0 e => ?_)
  have hw := dI_wa h (k := nx - 1) (by have := h.2.2.1 h0; omega) (by omega)
  rw [e] at hw
  exact absurd (by rw [hw.2.1]; exact hw) (hr t ht)
theorem last_4 (h : dI ol nx en rq B Rt eA eS eN) (hn : nx < 2 ^ 31) {last : Int32} {t i : Nat} (ht : t < 40) (hl : lastI nx eA last t) (hrt : ¬ Rt t = 0) (hr : ¬ r2 B t 0 ≤ last) (hi : i < 40) (hw : wa B Rt (r2 B t 0) i) : lastI nx eA (r2 B t 0) (t + 1) := by
  obtain ⟨e, he, h3, -⟩ := h.2.2.2.2.2.2.2.2.1 t ht hrt
  have hne : e ≠ nx := by
    intro q
    subst q
    rw [h3] at hw
    exact dI_none h hn hi hw
  refine ⟨Or.inr ⟨e, by omega, h3⟩, fun h0 h1 => ?_⟩
  by_cases q : eA (nx - 1) = t
  · have hw := dI_wa h (k := nx - 1) (by have := h.2.2.1 h0; omega) (by omega)
    rw [q] at hw
    exact hw.2.1
  · have hx := hl.2 h0 (by omega)
    subst hx
    rw [h3] at hr
    exact absurd ((nI_leI (by omega) (by omega)).mpr (show e ≤ nx - 1 by omega)) hr
theorem last_e0 {last : Int32} (hl : lastI nx eA last 40) (h0 : nx = 0) : last = -1 := by
  rcases hl.1 with q | ⟨e, h1, -⟩
  · exact q
  · omega
theorem last_e1 (h : dI ol nx en rq B Rt eA eS eN) {last : Int32} (hl : lastI nx eA last 40) (h0 : 0 < nx) : last = nI (nx - 1) := hl.2 h0 (h.1.2.2.2.2 _)
theorem last_nx (h : dI ol nx en rq B Rt eA eS eN) {last : Int32} (hl : lastI nx eA last 40) : last + nI 1 = nI nx := by
  by_cases h0 : nx = 0
  · rw [last_e0 hl h0, h0]
    decide
  · rw [last_e1 h hl (by omega), nI_add]
    congr 1
    omega
/-- the second loop of start: end and records so far -/
def backI (ol : Nat) (B : Nat → Int32) (eA eS : Nat → Nat) (eN : Nat → Int32) (k e1 : Nat) (rr : Int32) : Prop := (k = ol ∧ e1 = 0 ∧ rr = 0) ∨ (ol < k ∧ e1 = (eA (k - 1) + nd (eS (k - 1))) % 40 ∧ rr = r2 B (eA (k - 1)) 6 + (if eN (k - 1) = -1 then 0 else 1))
theorem back_end (h : dI ol nx en rq B Rt eA eS eN) {e1 : Nat} {rr : Int32} (hb : backI ol B eA eS eN nx e1 rr) : e1 = en ∧ rr = nI rq := by
  obtain ⟨⟨hon, -, -, -, ha⟩, h0, h1, h40, hpos, hen, hk, hlast, -⟩ := h
  rcases hb with ⟨q, h2, h3⟩ | ⟨q, h2, h3⟩
  · have hn : nx = 0 := by
      by_cases z : nx = 0
      · exact z
      · have := h1 (by omega)
        omega
    obtain ⟨a1, a2⟩ := h0 hn
    rw [h2, h3, a1, a2]
    exact ⟨rfl, rfl⟩
  · refine ⟨?_, by rw [h3]; exact (hlast (by omega)).2⟩
    rw [h2, hen q]
    have e1 := hpos (nx - 1 - ol) (by omega)
    rw [show ol + (nx - 1 - ol) = nx - 1 by omega] at e1
    rw [e1, show nx - ol = (nx - 1 - ol) + 1 by omega]
    show _ = (eA ol + (us eS ol (nx - 1 - ol) + nd (eS (ol + (nx - 1 - ol))))) % 40
    rw [show ol + (nx - 1 - ol) = nx - 1 by omega]
    omega
end DI
end
section
/-! the desk starts again -/
set_option maxHeartbeats 4000000 in
set_option maxRecDepth 100000 in
/-- start with power: refused -/
theorem c_D_startN (l : Launch) {D : va_G} {A : Nat → Prop} {cs : Nat → ClassId} {ad : Nat → Nat} {sz : Nat} {cu pw : Int32} {ol nx en : Nat} {rc : Int32} {B Rt Tp : Nat → Int32} {eA eS : Nat → Nat} {eN : Nat → Int32} {R : va_W} (h : ¬ pw = 0) : Met l y_D_start (Cond.code y_D_start b_D_start 6 (some .int) :: gw) (rmn 4) (va_Pc [.ref (ad 0)] (St D cs A (dW cs ad sz cu pw ol nx en rc B Rt Tp eA eS eN R))) (QI D A (fun r z => r = -1 ∧ z = dW cs ad sz cu pw ol nx en rc B Rt Tp eA eS eN R)) 0 0 A := by
  refine x_start (by decide) (Nat.le_of_ble_eq_true rfl) ?_
  intro p e s m below meth c hB hr hlk hin hP hD ls hl
  have hx := hB.1
  have hb := hB.2.1
  have hown := hB.2.2.2.1
  have hts := hB.2.2.2.2.1
  have hK := hB.2.2.2.2.2.1
  have hS : va_S A s.heap s.heap [] := va_S.rf
  have hl : lv_has ls 6 [(0, .ref (ad 0))] := hl
  have hr0 := hr
  refine lv_aload_n hx hb d_D_start_0 rfl (lv_at hl 0 rfl) ?_
  refine gf_D_24 (v := .int pw) hB hP 0 rfl rfl d_D_start_1 ?_
  refine lv_if_eq (tgt := 9) hx hb d_D_start_4 (by decide) (fun hc4 => (absurd hc4 h)) (fun hc4 => ?_)
  refine lv_iconst (v := (-1)) hx hb d_D_start_7 (by decide) ?_
  exact r_iQ hB hr0 hlk hP hD hS ⟨rfl, rfl⟩ d_D_start_8
set_option maxHeartbeats 4000000 in
set_option maxRecDepth 100000 in
/-- start: all is found again -/
theorem c_D_start (l : Launch) {D : va_G} {A : Nat → Prop} {cs : Nat → ClassId} {ad : Nat → Nat} {sz : Nat} {cu pw : Int32} {ol nx en : Nat} {rc : Int32} {B Rt Tp : Nat → Int32} {eA eS : Nat → Nat} {eN : Nat → Int32} {R : va_W} {rq : Nat} (hI : dI ol nx en rq B Rt eA eS eN) (hn : nx ≤ 520) (hrc : rc = nI rq) : Met l y_D_start (Cond.code y_D_start b_D_start 6 (some .int) :: gw) (rmn 4) (va_Pc [.ref (ad 0)] (St D cs A (dW cs ad sz cu (nI 0) ol nx en rc B Rt Tp eA eS eN R))) (QI D A (fun r z => r = nI (mn eN ol (nx - ol)) ∧ z = dW cs ad sz cu (nI 1) ol nx en rc B Rt Tp eA eS eN R)) 0 0 A := by
  refine x_start (by decide) (Nat.le_of_ble_eq_true rfl) ?_
  intro p e s m below meth c hB hr hlk hin hP hD ls hl
  have hx := hB.1
  have hb := hB.2.1
  have hown := hB.2.2.2.1
  have hts := hB.2.2.2.2.1
  have hK := hB.2.2.2.2.2.1
  have hS : va_S A s.heap s.heap [] := va_S.rf
  have hl : lv_has ls 6 [(0, .ref (ad 0))] := hl
  have hr0 := hr
  have h1 := hI.1.1
  have hs := hI.1.2.2.2.1
  have ha := hI.1.2.2.2.2
  have hn31 : nx < 2 ^ 31 := by omega
  refine lv_aload_n hx hb d_D_start_0 rfl (lv_at hl 0 rfl) ?_
  refine gf_D_24 (v := .int (nI 0)) hB hP 0 rfl rfl d_D_start_1 ?_
  refine n_if_eq hx hb (by omega) (tgt := 9) d_D_start_4 (by decide) (fun _ => ?_) (fun h => absurd h (by decide))
  refine lv_aload_n hx hb d_D_start_9 rfl (lv_at hl 0 rfl) ?_
  refine lv_iconst (v := nI 1) hx hb d_D_start_10 (by decide) ?_
  refine pf_D_24 hB hP hD hS 0 rfl (by decide) (by decide) (Nat.le_of_ble_eq_true rfl) d_D_start_11 (fun H locs hP hD hS => ?_)
  have hP : va_P D classes (dW cs ad sz cu (nI 1) ol nx en rc B Rt Tp eA eS eN R) H := hP
  have hD : va_D A (dW cs ad sz cu (nI 1) ol nx en rc B Rt Tp eA eS eN R) := hD
  refine lv_iconst (v := (-1)) hx hb d_D_start_14 (by decide) ?_
  refine lv_istore_n (lv' := [(1, .int (-1)), (0, .ref (ad 0))]) hx hb d_D_start_15 rfl hl (by decide) rfl (fun ls hl => ?_)
  refine lv_iconst (v := nI 0) hx hb d_D_start_16 (by decide) ?_
  refine lv_istore_n (lv' := [(2, .int (nI 0)), (1, .int (-1)), (0, .ref (ad 0))]) hx hb d_D_start_17 rfl hl (by decide) rfl (fun ls hl => ?_)
  have loop : ∀ (n : Nat) (t : Nat) (last : Int32), (t ≤ 40) → (lastI nx eA last t) → (40 + 1 ≤ t + n) → ∀ (H : Heap) (locs : List Loc), va_P D classes (dW cs ad sz cu (nI 1) ol nx en rc B Rt Tp eA eS eN R) H → va_D A (dW cs ad sz cu (nI 1) ol nx en rc B Rt Tp eA eS eN R) → va_S A s.heap H locs → ∀ ls : Array Slot, lv_has ls 6 [(0, .ref (ad 0)), (1, .int last), (2, .int (nI t))] → W p l e (rmn 4) s m ([.ref (ad 0)] : List Value).toArray below meth c H locs 0 0 (MQ below (QI D A (fun r z => r = nI (mn eN ol (nx - ol)) ∧ z = dW cs ad sz cu (nI 1) ol nx en rc B Rt Tp eA eS eN R)) ([.ref (ad 0)] : List Value).toArray s 0 0 A) (F0 m 18 ls []) := by
    intro n
    induction n with
    | zero => intro t last ht0 hla hm; exfalso; omega
    | succ n ih =>
      intro t last ht0 hla hm H locs hP hD hS ls hl
      refine lv_iload_n hx hb d_D_start_18 rfl (lv_at hl 2 rfl) ?_
      refine lv_bipush (v := nI 40) hx hb d_D_start_19 (by decide) ?_
      refine n_icmp_ge hx hb (by omega) (by omega) (tgt := 68) d_D_start_21 (by decide) (fun hc21 => ?_) (fun hc21 => ?_)
      · skip
        obtain rfl : t = 40 := by omega
        refine lv_aload_n hx hb d_D_start_68 rfl (lv_at hl 0 rfl) ?_
        refine lv_iload_n hx hb d_D_start_69 rfl (lv_at hl 1 rfl) ?_
        refine lv_iconst (v := nI 1) hx hb d_D_start_70 (by decide) ?_
        refine lv_iadd hx hb d_D_start_71 ?_
        refine tp_i (y := nI nx) (last_nx hI hla) ?_
        refine pf_D_41 hB hP hD hS 0 rfl (Nat.le_of_ble_eq_true rfl) d_D_start_72 (fun H locs hP hD hS => ?_)
        have hP : va_P D classes (dW cs ad sz cu (nI 1) ol nx en rc B Rt Tp eA eS eN R) H := hP
        have hD : va_D A (dW cs ad sz cu (nI 1) ol nx en rc B Rt Tp eA eS eN R) := hD
        refine lv_aload_n hx hb d_D_start_75 rfl (lv_at hl 0 rfl) ?_
        refine lv_iload_n hx hb d_D_start_76 rfl (lv_at hl 1 rfl) ?_
        refine lv_iconst (v := (-1)) hx hb d_D_start_77 (by decide) ?_
        have J98 : W p l e (rmn 4) s m ([.ref (ad 0)] : List Value).toArray below meth c H locs 0 0 (MQ below (QI D A (fun r z => r = nI (mn eN ol (nx - ol)) ∧ z = dW cs ad sz cu (nI 1) ol nx en rc B Rt Tp eA eS eN R)) ([.ref (ad 0)] : List Value).toArray s 0 0 A) (F0 m 98 ls [.int (nI ol), .ref (ad 0)]) := by
          refine pf_D_38 hB hP hD hS 0 rfl (Nat.le_of_ble_eq_true rfl) d_D_start_98 (fun H locs hP hD hS => ?_)
          have hP : va_P D classes (dW cs ad sz cu (nI 1) ol nx en rc B Rt Tp eA eS eN R) H := hP
          have hD : va_D A (dW cs ad sz cu (nI 1) ol nx en rc B Rt Tp eA eS eN R) := hD
          refine lv_aload_n hx hb d_D_start_101 rfl (lv_at hl 0 rfl) ?_
          refine lv_iconst (v := nI 0) hx hb d_D_start_102 (by decide) ?_
          refine pf_D_65 hB hP hD hS 0 rfl (Nat.le_of_ble_eq_true rfl) d_D_start_103 (fun H locs hP hD hS => ?_)
          have hP : va_P D classes (dW cs ad sz cu (nI 1) ol nx 0 rc B Rt Tp eA eS eN R) H := hP
          have hD : va_D A (dW cs ad sz cu (nI 1) ol nx 0 rc B Rt Tp eA eS eN R) := hD
          refine lv_aload_n hx hb d_D_start_106 rfl (lv_at hl 0 rfl) ?_
          refine lv_iconst (v := 0) hx hb d_D_start_107 (by decide) ?_
          refine pf_D_58 hB hP hD hS 0 rfl (Nat.le_of_ble_eq_true rfl) d_D_start_108 (fun H locs hP hD hS => ?_)
          have hP : va_P D classes (dW cs ad sz cu (nI 1) ol nx 0 0 B Rt Tp eA eS eN R) H := hP
          have hD : va_D A (dW cs ad sz cu (nI 1) ol nx 0 0 B Rt Tp eA eS eN R) := hD
          refine lv_aload_n hx hb d_D_start_111 rfl (lv_at hl 0 rfl) ?_
          refine gf_D_38 (v := .int (nI ol)) hB hP 0 rfl rfl d_D_start_112 ?_
          refine lv_istore_n (lv' := [(2, .int (nI ol)), (0, .ref (ad 0)), (1, .int last)]) hx hb d_D_start_115 rfl hl (by decide) rfl (fun ls hl => ?_)
          have loop2 : ∀ (n2 : Nat) (k : Nat) (e1 : Nat) (rr : Int32), (ol ≤ k) → (k ≤ nx) → (backI ol B eA eS eN k e1 rr) → (nx + 1 ≤ k + n2) → ∀ (H : Heap) (locs : List Loc), va_P D classes (dW cs ad sz cu (nI 1) ol nx e1 rr B Rt Tp eA eS eN R) H → va_D A (dW cs ad sz cu (nI 1) ol nx e1 rr B Rt Tp eA eS eN R) → va_S A s.heap H locs → ∀ ls : Array Slot, lv_has ls 6 [(0, .ref (ad 0)), (2, .int (nI k))] → W p l e (rmn 4) s m ([.ref (ad 0)] : List Value).toArray below meth c H locs 0 0 (MQ below (QI D A (fun r z => r = nI (mn eN ol (nx - ol)) ∧ z = dW cs ad sz cu (nI 1) ol nx en rc B Rt Tp eA eS eN R)) ([.ref (ad 0)] : List Value).toArray s 0 0 A) (F0 m 116 ls []) := by
            intro n2
            induction n2 with
            | zero => intro k e1 rr hk1 hk2 hbk hm2; exfalso; omega
            | succ n2 ih =>
              intro k e1 rr hk1 hk2 hbk hm2 H locs hP hD hS ls hl
              refine lv_iload_n hx hb d_D_start_116 rfl (lv_at hl 1 rfl) ?_
              refine lv_aload_n hx hb d_D_start_117 rfl (lv_at hl 0 rfl) ?_
              refine gf_D_41 (v := .int (nI nx)) hB hP 0 rfl rfl d_D_start_118 ?_
              refine n_icmp_ge hx hb (by omega) (by omega) (tgt := 245) d_D_start_121 (by decide) (fun hc121 => ?_) (fun hc121 => ?_)
              · skip
                have hkn : k = nx := by omega
                rw [hkn] at hbk
                have hbe := back_end hI hbk
                rw [hbe.1, hbe.2, ← hrc] at hP hD
                have hP : va_P D classes (dW cs ad sz cu (nI 1) ol nx en rc B Rt Tp eA eS eN R) H := hP
                have hD : va_D A (dW cs ad sz cu (nI 1) ol nx en rc B Rt Tp eA eS eN R) := hD
                refine lv_aload_n hx hb d_D_start_245 rfl (lv_at hl 0 rfl) ?_
                refine x_cSi (As := []) (rest := []) (n := 0) hB (c_D_many l h1 hn) gi_D_96 (by decide +kernel) rfl rfl ⟨Nat.le_of_ble_eq_true rfl, Nat.le_of_ble_eq_true rfl⟩ hP hD 0 rfl rfl hl.1 rfl (Nat.le_of_ble_eq_true rfl) d_D_start_246 ⟨Nat.le_of_ble_eq_true rfl, Nat.le_of_ble_eq_true rfl⟩ (fun r hr => ?_)
                subst hr
                exact r_iQ hB hr0 hlk hP hD hS ⟨rfl, rfl⟩ d_D_start_249
              · skip
                have hak := ha k
                have hsk := hs k
                have hndk := nd_le hsk
                refine lv_aload_n hx hb d_D_start_124 rfl (lv_at hl 0 rfl) ?_
                refine lv_iload_n hx hb d_D_start_125 rfl (lv_at hl 1 rfl) ?_
                refine x_cSi (As := [.int (nI k)]) (rest := []) (n := 1) hB (c_D_whole l (x := nI k)) gi_D_112 (by decide +kernel) rfl rfl ⟨Nat.le_of_ble_eq_true rfl, Nat.le_of_ble_eq_true rfl⟩ hP hD 0 rfl rfl hl.1 rfl (Nat.le_of_ble_eq_true rfl) d_D_start_126 ⟨Nat.le_of_ble_eq_true rfl, Nat.le_of_ble_eq_true rfl⟩ (fun r hr => ?_)
                have hr := dI_whole hI hn31 hk1 hc121 hr
                subst hr
                refine lv_istore_n (lv' := [(3, .int (nI (eA k))), (0, .ref (ad 0)), (2, .int (nI k))]) hx hb d_D_start_129 rfl hl (by decide) rfl (fun ls hl => ?_)
                refine lv_aload_n hx hb d_D_start_130 rfl (lv_at hl 1 rfl) ?_
                refine gf_D_30 (v := .ref (ad 5)) hB hP 0 rfl rfl d_D_start_131 ?_
                refine lv_iload_n hx hb d_D_start_134 rfl (lv_at hl 2 rfl) ?_
                refine n_aldq (f := fun j => ad (j + 6)) hx hb hK hP 5 2 rfl rfl (by omega) (by decide) d_D_start_135 ?_
                refine W.eq (g2 := F0 m 136 ls [.ref (ad (k + 6))]) rfl ?_
                refine lv_astore (lv' := [(4, .ref (ad (k + 6))), (3, .int (nI (eA k))), (0, .ref (ad 0)), (2, .int (nI k))]) hx hb d_D_start_136 hl (by decide) rfl (fun ls hl => ?_)
                refine lv_aload hx hb d_D_start_138 (lv_at hl 0 rfl) ?_
                refine lv_iload_n hx hb d_D_start_140 rfl (lv_at hl 1 rfl) ?_
                refine pf_D_68 hB hP hD hS (k + 6) (dW_e (by omega)) (Nat.le_of_ble_eq_true rfl) d_D_start_141 (fun H locs hP hD hS => ?_)
                rw [dW_setA (by omega)] at hP hD
                rw [up_same] at hP hD
                have hP : va_P D classes (dW cs ad sz cu (nI 1) ol nx e1 rr B Rt Tp eA eS eN R) H := hP
                have hD : va_D A (dW cs ad sz cu (nI 1) ol nx e1 rr B Rt Tp eA eS eN R) := hD
                refine lv_aload hx hb d_D_start_144 (lv_at hl 0 rfl) ?_
                refine lv_aload_n hx hb d_D_start_146 rfl (lv_at hl 2 rfl) ?_
                refine lv_iload_n hx hb d_D_start_147 rfl (lv_at hl 1 rfl) ?_
                refine x_cSi (As := [.int (nI (eA k))]) (rest := [.ref (ad (k + 6))]) (n := 1) hB (c_D_sizeAt l (i := eA k) (by omega)) gi_D_102 (by decide +kernel) rfl rfl ⟨Nat.le_of_ble_eq_true rfl, Nat.le_of_ble_eq_true rfl⟩ hP hD 0 rfl rfl hl.1 rfl (Nat.le_of_ble_eq_true rfl) d_D_start_148 ⟨Nat.le_of_ble_eq_true rfl, Nat.le_of_ble_eq_true rfl⟩ (fun r hr => ?_)
                subst hr
                refine tp_i (y := nI (eS k)) (congrArg nI (dI_sza hI hk1 hc121)) ?_
                refine pf_D_71 hB hP hD hS (k + 6) (dW_e (by omega)) (Nat.le_of_ble_eq_true rfl) d_D_start_151 (fun H locs hP hD hS => ?_)
                rw [dW_setS (by omega)] at hP hD
                rw [up_same] at hP hD
                have hP : va_P D classes (dW cs ad sz cu (nI 1) ol nx e1 rr B Rt Tp eA eS eN R) H := hP
                have hD : va_D A (dW cs ad sz cu (nI 1) ol nx e1 rr B Rt Tp eA eS eN R) := hD
                refine lv_aload_n hx hb d_D_start_154 rfl (lv_at hl 2 rfl) ?_
                refine gf_D_10 (v := .ref (ad 1)) hB hP 0 rfl rfl d_D_start_155 ?_
                refine lv_iload_n hx hb d_D_start_158 rfl (lv_at hl 1 rfl) ?_
                refine lv_iconst (v := nI 3) hx hb d_D_start_159 (by decide) ?_
                refine x_cSi (As := [.int (nI (eA k)), .int (nI 3)]) (rest := []) (n := 2) hB (c_K_readOne l (i := eA k) (j := 3) (by omega)) gi_D_99 (by decide +kernel) rfl rfl ⟨Nat.le_of_ble_eq_true rfl, Nat.le_of_ble_eq_true rfl⟩ hP hD 1 rfl rfl hl.1 rfl (Nat.le_of_ble_eq_true rfl) d_D_start_160 ⟨Nat.le_of_ble_eq_true rfl, Nat.le_of_ble_eq_true rfl⟩ (fun r hr => ?_)
                subst hr
                refine lv_sipush (v := 255) hx hb d_D_start_163 (by decide) ?_
                refine lv_icmp_ne (tgt := 173) hx hb d_D_start_166 (by decide) (fun hc166 => ?_) (fun hc166 => ?_)
                · skip
                  have hen1 : ¬ eN k = -1 := fun q => hc166 ((dI_drop hI hk1 hc121).mpr q)
                  refine lv_iconst (v := nI 0) hx hb d_D_start_173 (by decide) ?_
                  refine lv_istore (lv' := [(5, .int (nI 0)), (4, .ref (ad (k + 6))), (3, .int (nI (eA k))), (0, .ref (ad 0)), (2, .int (nI k))]) hx hb d_D_start_174 hl (by decide) rfl (fun ls hl => ?_)
                  refine lv_aload hx hb d_D_start_176 (lv_at hl 1 rfl) ?_
                  refine lv_iload hx hb d_D_start_178 (lv_at hl 0 rfl) ?_
                  refine n_if_eq hx hb (by omega) (tgt := 187) d_D_start_180 (by decide) (fun _ => ?_) (fun h => absurd h (by decide))
                  refine lv_aload_n hx hb d_D_start_187 rfl (lv_at hl 3 rfl) ?_
                  refine gf_D_10 (v := .ref (ad 1)) hB hP 0 rfl rfl d_D_start_188 ?_
                  refine lv_iload_n hx hb d_D_start_191 rfl (lv_at hl 2 rfl) ?_
                  refine lv_bipush (v := nI 6) hx hb d_D_start_192 (by decide) ?_
                  refine x_cSi (As := [.int (nI (eA k)), .int (nI 6)]) (rest := [.ref (ad (k + 6))]) (n := 2) hB (c_K_readTwo l (i := eA k) (j := 6) (by omega)) gi_D_106 (by decide +kernel) rfl rfl ⟨Nat.le_of_ble_eq_true rfl, Nat.le_of_ble_eq_true rfl⟩ hP hD 1 rfl rfl hl.1 rfl (Nat.le_of_ble_eq_true rfl) d_D_start_194 ⟨Nat.le_of_ble_eq_true rfl, Nat.le_of_ble_eq_true rfl⟩ (fun r hr => ?_)
                  subst hr
                  refine tp_i (y := eN k) ((hI.2.2.2.2.2.2.1 k hk1 hc121).2.2.2 hen1) ?_
                  refine pf_D_48 hB hP hD hS (k + 6) (dW_e (by omega)) (Nat.le_of_ble_eq_true rfl) d_D_start_197 (fun H locs hP hD hS => ?_)
                  rw [dW_setN (by omega)] at hP hD
                  rw [up_same] at hP hD
                  have hP : va_P D classes (dW cs ad sz cu (nI 1) ol nx e1 rr B Rt Tp eA eS eN R) H := hP
                  have hD : va_D A (dW cs ad sz cu (nI 1) ol nx e1 rr B Rt Tp eA eS eN R) := hD
                  refine lv_aload_n hx hb d_D_start_200 rfl (lv_at hl 3 rfl) ?_
                  refine lv_iload_n hx hb d_D_start_201 rfl (lv_at hl 2 rfl) ?_
                  refine lv_aload hx hb d_D_start_202 (lv_at hl 1 rfl) ?_
                  refine x_cSi (As := []) (rest := [.int (nI (eA k)), .ref (ad 0)]) (n := 0) hB (c_E_need l (k := k) (by omega) (by omega)) gi_D_44 (by decide +kernel) rfl rfl ⟨Nat.le_of_ble_eq_true rfl, Nat.le_of_ble_eq_true rfl⟩ hP hD (k + 6) (dW_e (by omega)) rfl hl.1 rfl (Nat.le_of_ble_eq_true rfl) d_D_start_204 ⟨Nat.le_of_ble_eq_true rfl, Nat.le_of_ble_eq_true rfl⟩ (fun r hr => ?_)
                  subst hr
                  refine n_add hx hb d_D_start_207 ?_
                  refine lv_bipush (v := nI 40) hx hb d_D_start_208 (by decide) ?_
                  refine n_rem hx hb (by omega) (by decide) (by decide) d_D_start_210 ?_
                  refine pf_D_65 hB hP hD hS 0 rfl (Nat.le_of_ble_eq_true rfl) d_D_start_211 (fun H locs hP hD hS => ?_)
                  have hP : va_P D classes (dW cs ad sz cu (nI 1) ol nx (((eA k) + (nd (eS k))) % 40) rr B Rt Tp eA eS eN R) H := hP
                  have hD : va_D A (dW cs ad sz cu (nI 1) ol nx (((eA k) + (nd (eS k))) % 40) rr B Rt Tp eA eS eN R) := hD
                  refine lv_aload_n hx hb d_D_start_214 rfl (lv_at hl 3 rfl) ?_
                  refine lv_aload_n hx hb d_D_start_215 rfl (lv_at hl 3 rfl) ?_
                  refine gf_D_10 (v := .ref (ad 1)) hB hP 0 rfl rfl d_D_start_216 ?_
                  refine lv_iload_n hx hb d_D_start_219 rfl (lv_at hl 2 rfl) ?_
                  refine lv_bipush (v := nI 6) hx hb d_D_start_220 (by decide) ?_
                  refine x_cSi (As := [.int (nI (eA k)), .int (nI 6)]) (rest := [.ref (ad 0)]) (n := 2) hB (c_K_readTwo l (i := eA k) (j := 6) (by omega)) gi_D_106 (by decide +kernel) rfl rfl ⟨Nat.le_of_ble_eq_true rfl, Nat.le_of_ble_eq_true rfl⟩ hP hD 1 rfl rfl hl.1 rfl (Nat.le_of_ble_eq_true rfl) d_D_start_222 ⟨Nat.le_of_ble_eq_true rfl, Nat.le_of_ble_eq_true rfl⟩ (fun r hr => ?_)
                  subst hr
                  refine lv_iload hx hb d_D_start_225 (lv_at hl 0 rfl) ?_
                  refine n_if_eq hx hb (by omega) (tgt := 234) d_D_start_227 (by decide) (fun _ => ?_) (fun h => absurd h (by decide))
                  refine lv_iconst (v := 1) hx hb d_D_start_234 (by decide) ?_
                  refine lv_iadd hx hb d_D_start_235 ?_
                  refine tp_i (y := (r2 B (eA k) 6 + (if eN k = -1 then 0 else 1))) (by first | rw [if_pos hen1] | rw [if_neg hen1]) ?_
                  refine pf_D_58 hB hP hD hS 0 rfl (Nat.le_of_ble_eq_true rfl) d_D_start_236 (fun H locs hP hD hS => ?_)
                  have hP : va_P D classes (dW cs ad sz cu (nI 1) ol nx (((eA k) + (nd (eS k))) % 40) (r2 B (eA k) 6 + (if eN k = -1 then 0 else 1)) B Rt Tp eA eS eN R) H := hP
                  have hD : va_D A (dW cs ad sz cu (nI 1) ol nx (((eA k) + (nd (eS k))) % 40) (r2 B (eA k) 6 + (if eN k = -1 then 0 else 1)) B Rt Tp eA eS eN R) := hD
                  refine n_inc (d := 1) (k := 4) (lv' := [(2, .int (nI (k + 1))), (5, .int (nI 0)), (4, .ref (ad (k + 6))), (3, .int (nI (eA k))), (0, .ref (ad 0))]) hx hb d_D_start_239 (by decide) hl rfl (by decide) rfl (fun ls hl => ?_)
                  refine lv_goto (tgt := 116) hx hb d_D_start_242 (by decide) ?_
                  exact ih (k + 1) _ _ (by omega) (by omega) (Or.inr ⟨by omega, rfl, rfl⟩) (by omega) _ _ hP hD hS ls (lv_sub hl [4, 0] rfl)
                · skip
                  have hen1 : eN k = -1 := (dI_drop hI hk1 hc121).mp hc166
                  refine lv_iconst (v := nI 1) hx hb d_D_start_169 (by decide) ?_
                  refine lv_goto (tgt := 174) hx hb d_D_start_170 (by decide) ?_
                  refine lv_istore (lv' := [(5, .int (nI 1)), (4, .ref (ad (k + 6))), (3, .int (nI (eA k))), (0, .ref (ad 0)), (2, .int (nI k))]) hx hb d_D_start_174 hl (by decide) rfl (fun ls hl => ?_)
                  refine lv_aload hx hb d_D_start_176 (lv_at hl 1 rfl) ?_
                  refine lv_iload hx hb d_D_start_178 (lv_at hl 0 rfl) ?_
                  refine n_if_eq hx hb (by omega) (tgt := 187) d_D_start_180 (by decide) (fun h => absurd h (by decide)) (fun _ => ?_)
                  refine lv_iconst (v := (-1)) hx hb d_D_start_183 (by decide) ?_
                  refine lv_goto (tgt := 197) hx hb d_D_start_184 (by decide) ?_
                  refine tp_i (y := eN k) hen1.symm ?_
                  refine pf_D_48 hB hP hD hS (k + 6) (dW_e (by omega)) (Nat.le_of_ble_eq_true rfl) d_D_start_197 (fun H locs hP hD hS => ?_)
                  rw [dW_setN (by omega)] at hP hD
                  rw [up_same] at hP hD
                  have hP : va_P D classes (dW cs ad sz cu (nI 1) ol nx e1 rr B Rt Tp eA eS eN R) H := hP
                  have hD : va_D A (dW cs ad sz cu (nI 1) ol nx e1 rr B Rt Tp eA eS eN R) := hD
                  refine lv_aload_n hx hb d_D_start_200 rfl (lv_at hl 3 rfl) ?_
                  refine lv_iload_n hx hb d_D_start_201 rfl (lv_at hl 2 rfl) ?_
                  refine lv_aload hx hb d_D_start_202 (lv_at hl 1 rfl) ?_
                  refine x_cSi (As := []) (rest := [.int (nI (eA k)), .ref (ad 0)]) (n := 0) hB (c_E_need l (k := k) (by omega) (by omega)) gi_D_44 (by decide +kernel) rfl rfl ⟨Nat.le_of_ble_eq_true rfl, Nat.le_of_ble_eq_true rfl⟩ hP hD (k + 6) (dW_e (by omega)) rfl hl.1 rfl (Nat.le_of_ble_eq_true rfl) d_D_start_204 ⟨Nat.le_of_ble_eq_true rfl, Nat.le_of_ble_eq_true rfl⟩ (fun r hr => ?_)
                  subst hr
                  refine n_add hx hb d_D_start_207 ?_
                  refine lv_bipush (v := nI 40) hx hb d_D_start_208 (by decide) ?_
                  refine n_rem hx hb (by omega) (by decide) (by decide) d_D_start_210 ?_
                  refine pf_D_65 hB hP hD hS 0 rfl (Nat.le_of_ble_eq_true rfl) d_D_start_211 (fun H locs hP hD hS => ?_)
                  have hP : va_P D classes (dW cs ad sz cu (nI 1) ol nx (((eA k) + (nd (eS k))) % 40) rr B Rt Tp eA eS eN R) H := hP
                  have hD : va_D A (dW cs ad sz cu (nI 1) ol nx (((eA k) + (nd (eS k))) % 40) rr B Rt Tp eA eS eN R) := hD
                  refine lv_aload_n hx hb d_D_start_214 rfl (lv_at hl 3 rfl) ?_
                  refine lv_aload_n hx hb d_D_start_215 rfl (lv_at hl 3 rfl) ?_
                  refine gf_D_10 (v := .ref (ad 1)) hB hP 0 rfl rfl d_D_start_216 ?_
                  refine lv_iload_n hx hb d_D_start_219 rfl (lv_at hl 2 rfl) ?_
                  refine lv_bipush (v := nI 6) hx hb d_D_start_220 (by decide) ?_
                  refine x_cSi (As := [.int (nI (eA k)), .int (nI 6)]) (rest := [.ref (ad 0)]) (n := 2) hB (c_K_readTwo l (i := eA k) (j := 6) (by omega)) gi_D_106 (by decide +kernel) rfl rfl ⟨Nat.le_of_ble_eq_true rfl, Nat.le_of_ble_eq_true rfl⟩ hP hD 1 rfl rfl hl.1 rfl (Nat.le_of_ble_eq_true rfl) d_D_start_222 ⟨Nat.le_of_ble_eq_true rfl, Nat.le_of_ble_eq_true rfl⟩ (fun r hr => ?_)
                  subst hr
                  refine lv_iload hx hb d_D_start_225 (lv_at hl 0 rfl) ?_
                  refine n_if_eq hx hb (by omega) (tgt := 234) d_D_start_227 (by decide) (fun h => absurd h (by decide)) (fun _ => ?_)
                  refine lv_iconst (v := 0) hx hb d_D_start_230 (by decide) ?_
                  refine lv_goto (tgt := 235) hx hb d_D_start_231 (by decide) ?_
                  refine lv_iadd hx hb d_D_start_235 ?_
                  refine tp_i (y := (r2 B (eA k) 6 + (if eN k = -1 then 0 else 1))) (by first | rw [if_pos hen1] | rw [if_neg hen1]) ?_
                  refine pf_D_58 hB hP hD hS 0 rfl (Nat.le_of_ble_eq_true rfl) d_D_start_236 (fun H locs hP hD hS => ?_)
                  have hP : va_P D classes (dW cs ad sz cu (nI 1) ol nx (((eA k) + (nd (eS k))) % 40) (r2 B (eA k) 6 + (if eN k = -1 then 0 else 1)) B Rt Tp eA eS eN R) H := hP
                  have hD : va_D A (dW cs ad sz cu (nI 1) ol nx (((eA k) + (nd (eS k))) % 40) (r2 B (eA k) 6 + (if eN k = -1 then 0 else 1)) B Rt Tp eA eS eN R) := hD
                  refine n_inc (d := 1) (k := 4) (lv' := [(2, .int (nI (k + 1))), (5, .int (nI 1)), (4, .ref (ad (k + 6))), (3, .int (nI (eA k))), (0, .ref (ad 0))]) hx hb d_D_start_239 (by decide) hl rfl (by decide) rfl (fun ls hl => ?_)
                  refine lv_goto (tgt := 116) hx hb d_D_start_242 (by decide) ?_
                  exact ih (k + 1) _ _ (by omega) (by omega) (Or.inr ⟨by omega, rfl, rfl⟩) (by omega) _ _ hP hD hS ls (lv_sub hl [4, 0] rfl)
          exact loop2 (nx + 1) ol 0 0 (by omega) h1 (Or.inl ⟨rfl, rfl, rfl⟩) (by omega) _ _ hP hD hS ls (lv_sub hl [1, 0] rfl)
        refine lv_icmp_ne (tgt := 85) hx hb d_D_start_78 (by decide) (fun hc78 => ?_) (fun hc78 => ?_)
        · skip
          have h0 : 0 < nx := by
            rcases Nat.eq_zero_or_pos nx with q | q
            · exact absurd (last_e0 hla q) hc78
            · exact q
          have hL := last_e1 hI hla h0
          rw [hL] at hl
          refine lv_aload_n hx hb d_D_start_85 rfl (lv_at hl 0 rfl) ?_
          refine gf_D_10 (v := .ref (ad 1)) hB hP 0 rfl rfl d_D_start_86 ?_
          refine lv_aload_n hx hb d_D_start_89 rfl (lv_at hl 0 rfl) ?_
          refine lv_iload_n hx hb d_D_start_90 rfl (lv_at hl 1 rfl) ?_
          refine x_cSi (As := [.int (nI (nx - 1))]) (rest := [.ref (ad 1), .ref (ad 0)]) (n := 1) hB (c_D_whole l (x := nI (nx - 1))) gi_D_112 (by decide +kernel) rfl rfl ⟨Nat.le_of_ble_eq_true rfl, Nat.le_of_ble_eq_true rfl⟩ hP hD 0 rfl rfl hl.1 rfl (Nat.le_of_ble_eq_true rfl) d_D_start_91 ⟨Nat.le_of_ble_eq_true rfl, Nat.le_of_ble_eq_true rfl⟩ (fun r hr => ?_)
          have hr := dI_whole hI hn31 (k := nx - 1) (by have := hI.2.2.1 h0; omega) (by omega) hr
          subst hr
          refine lv_iconst (v := nI 4) hx hb d_D_start_94 (by decide) ?_
          refine x_cSi (As := [.int (nI (eA (nx - 1))), .int (nI 4)]) (rest := [.ref (ad 0)]) (n := 2) hB (c_K_readTwo l (i := eA (nx - 1)) (j := 4) (by have := ha (nx - 1); omega)) gi_D_106 (by decide +kernel) rfl rfl ⟨Nat.le_of_ble_eq_true rfl, Nat.le_of_ble_eq_true rfl⟩ hP hD 1 rfl rfl hl.1 rfl (Nat.le_of_ble_eq_true rfl) d_D_start_95 ⟨Nat.le_of_ble_eq_true rfl, Nat.le_of_ble_eq_true rfl⟩ (fun r hr => ?_)
          subst hr
          refine tp_i (y := nI ol) (hI.2.2.2.2.2.2.2.1 h0).1 ?_
          exact J98
        · skip
          have h0 : nx = 0 := by
            rcases Nat.eq_zero_or_pos nx with q | q
            · exact q
            · have hL := last_e1 hI hla q
              rw [hc78] at hL
              exact absurd hL.symm (nI_nm1 (by omega))
          refine lv_iconst (v := nI 0) hx hb d_D_start_81 (by decide) ?_
          refine lv_goto (tgt := 98) hx hb d_D_start_82 (by decide) ?_
          refine tp_i (y := nI ol) (congrArg nI (by omega)) ?_
          exact J98
      · skip
        have ht : t < 40 := hc21
        refine lv_aload_n hx hb d_D_start_24 rfl (lv_at hl 0 rfl) ?_
        refine gf_D_10 (v := .ref (ad 1)) hB hP 0 rfl rfl d_D_start_25 ?_
        refine lv_iload_n hx hb d_D_start_28 rfl (lv_at hl 2 rfl) ?_
        refine lv_iconst (v := nI 0) hx hb d_D_start_29 (by decide) ?_
        refine x_cSi (As := [.int (nI t), .int (nI 0)]) (rest := []) (n := 2) hB (c_K_readTwo l (i := t) (j := 0) (by omega)) gi_D_106 (by decide +kernel) rfl rfl ⟨Nat.le_of_ble_eq_true rfl, Nat.le_of_ble_eq_true rfl⟩ hP hD 1 rfl rfl hl.1 rfl (Nat.le_of_ble_eq_true rfl) d_D_start_30 ⟨Nat.le_of_ble_eq_true rfl, Nat.le_of_ble_eq_true rfl⟩ (fun r hr => ?_)
        subst hr
        refine lv_istore_n (lv' := [(3, .int (r2 B t 0)), (0, .ref (ad 0)), (1, .int last), (2, .int (nI t))]) hx hb d_D_start_33 rfl hl (by decide) rfl (fun ls hl => ?_)
        refine lv_aload_n hx hb d_D_start_34 rfl (lv_at hl 1 rfl) ?_
        refine gf_D_10 (v := .ref (ad 1)) hB hP 0 rfl rfl d_D_start_35 ?_
        refine gf_D_61 (v := .ref (ad 3)) hB hP 1 rfl rfl d_D_start_38 ?_
        refine lv_iload_n hx hb d_D_start_41 rfl (lv_at hl 3 rfl) ?_
        refine n_zald hx hb hK hP 3 1 rfl rfl (by omega) (by decide) d_D_start_42 ?_
        refine lv_if_eq (tgt := 62) hx hb d_D_start_43 (by decide) (fun hc43 => ?_) (fun hc43 => ?_)
        · skip
          refine n_inc (d := 1) (k := 3) (lv' := [(2, .int (nI (t + 1))), (3, .int (r2 B t 0)), (0, .ref (ad 0)), (1, .int last)]) hx hb d_D_start_62 (by decide) hl rfl (by decide) rfl (fun ls hl => ?_)
          refine lv_goto (tgt := 18) hx hb d_D_start_65 (by decide) ?_
          exact ih (t + 1) (last) (by omega) (last_1 hI hla hc43) (by omega) _ _ hP hD hS ls (lv_sub hl [2, 3, 0] rfl)
        · skip
          refine lv_iload_n hx hb d_D_start_46 rfl (lv_at hl 0 rfl) ?_
          refine lv_iload_n hx hb d_D_start_47 rfl (lv_at hl 2 rfl) ?_
          refine lv_icmp_le (tgt := 62) hx hb d_D_start_48 (by decide) (fun hc48 => ?_) (fun hc48 => ?_)
          · skip
            refine n_inc (d := 1) (k := 3) (lv' := [(2, .int (nI (t + 1))), (3, .int (r2 B t 0)), (0, .ref (ad 0)), (1, .int last)]) hx hb d_D_start_62 (by decide) hl rfl (by decide) rfl (fun ls hl => ?_)
            refine lv_goto (tgt := 18) hx hb d_D_start_65 (by decide) ?_
            exact ih (t + 1) (last) (by omega) (last_2 hI hn31 hla hc48) (by omega) _ _ hP hD hS ls (lv_sub hl [2, 3, 0] rfl)
          · skip
            refine lv_aload_n hx hb d_D_start_51 rfl (lv_at hl 1 rfl) ?_
            refine lv_iload_n hx hb d_D_start_52 rfl (lv_at hl 0 rfl) ?_
            refine x_cSi (As := [.int (r2 B t 0)]) (rest := []) (n := 1) hB (c_D_whole l (x := r2 B t 0)) gi_D_112 (by decide +kernel) rfl rfl ⟨Nat.le_of_ble_eq_true rfl, Nat.le_of_ble_eq_true rfl⟩ hP hD 0 rfl rfl hl.1 rfl (Nat.le_of_ble_eq_true rfl) d_D_start_53 ⟨Nat.le_of_ble_eq_true rfl, Nat.le_of_ble_eq_true rfl⟩ (fun r hr => ?_)
            have hwh := hr
            refine lv_iconst (v := (-1)) hx hb d_D_start_56 (by decide) ?_
            refine lv_icmp_eq (tgt := 62) hx hb d_D_start_57 (by decide) (fun hc57 => ?_) (fun hc57 => ?_)
            · skip
              refine n_inc (d := 1) (k := 3) (lv' := [(2, .int (nI (t + 1))), (3, .int (r2 B t 0)), (0, .ref (ad 0)), (1, .int last)]) hx hb d_D_start_62 (by decide) hl rfl (by decide) rfl (fun ls hl => ?_)
              refine lv_goto (tgt := 18) hx hb d_D_start_65 (by decide) ?_
              exact ih (t + 1) (last) (by omega) (last_3 hI ht hla (hwh.resolve_left (fun q => by obtain ⟨i, hi, e, -⟩ := q; rw [hc57] at e; exact absurd e.symm (nI_nm1 (by omega)))).2) (by omega) _ _ hP hD hS ls (lv_sub hl [2, 3, 0] rfl)
            · skip
              refine lv_iload_n hx hb d_D_start_60 rfl (lv_at hl 0 rfl) ?_
              refine lv_istore_n (lv' := [(1, .int (r2 B t 0)), (3, .int (r2 B t 0)), (0, .ref (ad 0)), (2, .int (nI t))]) hx hb d_D_start_61 rfl hl (by decide) rfl (fun ls hl => ?_)
              refine n_inc (d := 1) (k := 3) (lv' := [(2, .int (nI (t + 1))), (1, .int (r2 B t 0)), (3, .int (r2 B t 0)), (0, .ref (ad 0))]) hx hb d_D_start_62 (by decide) hl rfl (by decide) rfl (fun ls hl => ?_)
              refine lv_goto (tgt := 18) hx hb d_D_start_65 (by decide) ?_
              exact ih (t + 1) (r2 B t 0) (by omega) ((by
                  obtain ⟨i, hi, -, hw⟩ := hwh.resolve_right (fun q => hc57 q.1)
                  exact last_4 hI hn31 ht hla hc43 hc48 hi hw)) (by omega) _ _ hP hD hS ls (lv_sub hl [3, 1, 0] rfl)
  exact loop 41 0 (-1) (by omega) ⟨Or.inl rfl, fun _ q => absurd q (Nat.not_lt_zero _)⟩ (by omega) _ _ hP hD hS ls (lv_sub hl [2, 1, 0] rfl)
end
section
/-! the model: put, used, records, isCut, cut, start, placeOf, record, bytes, count -/
/-- the model's marks as numbers: -1 is a drop -/
def qR (Rc : Nat → Int32) : Nat → Int32 := fun k => if Rc k = 0 then -1 else 0
theorem qR_t {Rc : Nat → Int32} {k : Nat} (h : Rc k = 0) : qR Rc k = -1 := if_pos h
theorem qR_f {Rc : Nat → Int32} {k : Nat} (h : ¬ Rc k = 0) : ¬ qR Rc k = -1 := by unfold qR; rw [if_neg h]; decide
theorem mn_0 (q : Nat → Int32) (m : Nat) : mn q 0 (m + 1) = mn q 0 m + (if q m = -1 then 0 else 1) := by
  show mn q 0 m + (if q (0 + m) = -1 then 0 else 1) = _
  rw [Nat.zero_add]
theorem us_0 (f : Nat → Nat) (m : Nat) : us f 0 (m + 1) = us f 0 m + nd (f m) := by
  show us f 0 m + nd (f (0 + m)) = _
  rw [Nat.zero_add]
def fdm (of : Int32) (Rc : Nat → Int32) (kp : Nat) (x : Int32) : Option Nat := if ¬ of = 0 ∨ x < 0 then none else pf (qR Rc) kp 0 x.toNatClampNeg
theorem fdm_lt {of : Int32} {Rc : Nat → Int32} {kp k : Nat} {x : Int32} (h : fdm of Rc kp x = some k) : k < kp := by
  unfold fdm at h
  split at h
  · cases h
  · have := pf_lt _ _ _ _ h
    omega
def plc (r : Option Nat) : Int32 := match r with
  | none => -1
  | some k => nI k
set_option maxHeartbeats 4000000 in
set_option maxRecDepth 100000 in
/-- put that is refused -/
theorem c_M_putN (l : Launch) {D : va_G} {A : Nat → Prop} {cs : Nat → ClassId} {bd : Nat → Nat} {td kp : Nat} {nx wh of cu : Int32} {T Rc Sz Nm By : Nat → Int32} {R : va_W} {v : Int64} {x : Int32} (h0 : td ≤ 100) (h : ∀ j, 1 ≤ j → j ≤ 8 → td + j ≤ 100 → ¬ x = nI j) : Met l y_M_put (Cond.code y_M_put b_M_put 5 (some .boolean) :: gw) (rmn 0) (va_Pc [.ref (bd 0), .long v, .int x] (St D cs A (mW cs bd td kp nx wh of cu T Rc Sz Nm By R))) (QI D A (fun r z => r = 0 ∧ z = mW cs bd td kp nx wh of cu T Rc Sz Nm By R)) 0 0 A := by
  refine x_start (by decide) (Nat.le_of_ble_eq_true rfl) ?_
  intro p e s m below meth c hB hr hlk hin hP hD ls hl
  have hx := hB.1
  have hb := hB.2.1
  have hown := hB.2.2.2.1
  have hts := hB.2.2.2.2.1
  have hK := hB.2.2.2.2.2.1
  have hS : va_S A s.heap s.heap [] := va_S.rf
  have hl : lv_has ls 5 [(0, .ref (bd 0)), (1, .long v), (3, .int x)] := hl
  have hr0 := hr
  refine lv_iload_n hx hb d_M_put_0 rfl (lv_at hl 2 rfl) ?_
  refine lv_iconst (v := 1) hx hb d_M_put_1 (by decide) ?_
  refine lv_icmp_lt (tgt := 22) hx hb d_M_put_2 (by decide) (fun hc2 => ?_) (fun hc2 => ?_)
  · skip
    refine lv_iconst (v := 0) hx hb d_M_put_22 (by decide) ?_
    exact r_zQ hB hr0 hlk (by decide) hP hD hS ⟨rfl, rfl⟩ d_M_put_23
  · skip
    refine lv_iload_n hx hb d_M_put_5 rfl (lv_at hl 2 rfl) ?_
    refine lv_bipush (v := 8) hx hb d_M_put_6 (by decide) ?_
    refine lv_icmp_gt (tgt := 22) hx hb d_M_put_8 (by decide) (fun hc8 => ?_) (fun hc8 => ?_)
    · skip
      refine lv_iconst (v := 0) hx hb d_M_put_22 (by decide) ?_
      exact r_zQ hB hr0 hlk (by decide) hP hD hS ⟨rfl, rfl⟩ d_M_put_23
    · skip
      obtain ⟨j, hj8, hxj⟩ := nI_of2 (x := x) (M := 8) (n := 8) rfl (fun q => hc2 (Int32.lt_trans q (by decide))) (Int32.not_lt.mp hc8)
      have hj1 : 1 ≤ j := Nat.pos_of_ne_zero (fun q => hc2 (by rw [hxj, q]; decide))
      rw [hxj] at hl
      refine lv_aload_n hx hb d_M_put_11 rfl (lv_at hl 0 rfl) ?_
      refine gf_M_30 (v := .int (nI td)) hB hP 0 rfl rfl d_M_put_12 ?_
      refine lv_iload_n hx hb d_M_put_15 rfl (lv_at hl 2 rfl) ?_
      refine n_add hx hb d_M_put_16 ?_
      refine lv_bipush (v := nI 100) hx hb d_M_put_17 (by decide) ?_
      refine n_icmp_le hx hb (by omega) (by omega) (tgt := 24) d_M_put_19 (by decide) (fun hc19 => (absurd hxj (h j hj1 hj8 hc19))) (fun hc19 => ?_)
      refine lv_iconst (v := 0) hx hb d_M_put_22 (by decide) ?_
      exact r_zQ hB hr0 hlk (by decide) hP hD hS ⟨rfl, rfl⟩ d_M_put_23
set_option maxHeartbeats 4000000 in
set_option maxRecDepth 100000 in
/-- put: j bytes behind the tape -/
theorem c_M_put (l : Launch) {D : va_G} {A : Nat → Prop} {cs : Nat → ClassId} {bd : Nat → Nat} {td kp : Nat} {nx wh of cu : Int32} {T Rc Sz Nm By : Nat → Int32} {R : va_W} {v : Int64} {j : Nat} (h1 : 1 ≤ j) (h2 : j ≤ 8) (h3 : td + j ≤ 100) : Met l y_M_put (Cond.code y_M_put b_M_put 5 (some .boolean) :: gw) (rmn 0) (va_Pc [.ref (bd 0), .long v, .int (nI j)] (St D cs A (mW cs bd td kp nx wh of cu T Rc Sz Nm By R))) (QI D A (fun r z => r = 1 ∧ ∃ T1 : Nat → Int32, z = mW cs bd (td + j) kp nx wh of cu T1 Rc Sz Nm By R ∧ (∀ i, i < td → T1 i = T i) ∧ ∀ i, i < j → T1 (td + i) = pb v (j - 1 - i) &&& 255)) 0 0 A := by
  refine x_start (by decide) (Nat.le_of_ble_eq_true rfl) ?_
  intro p e s m below meth c hB hr hlk hin hP hD ls hl
  have hx := hB.1
  have hb := hB.2.1
  have hown := hB.2.2.2.1
  have hts := hB.2.2.2.2.1
  have hK := hB.2.2.2.2.2.1
  have hS : va_S A s.heap s.heap [] := va_S.rf
  have hl : lv_has ls 5 [(0, .ref (bd 0)), (1, .long v), (3, .int (nI j))] := hl
  have hr0 := hr
  have loop : ∀ (n i u : Nat) (T1 : Nat → Int32), i + u = j → (∀ q, q < td → T1 q = T q) → (∀ q, q < i → T1 (td + q) = pb v (j - 1 - q) &&& 255) → u + 1 ≤ n → ∀ (H : Heap) (locs : List Loc), va_P D classes (mW cs bd (td + i) kp nx wh of cu T1 Rc Sz Nm By R) H → va_D A (mW cs bd (td + i) kp nx wh of cu T1 Rc Sz Nm By R) → va_S A s.heap H locs → ∀ ls : Array Slot, lv_has ls 5 [(0, .ref (bd 0)), (1, .long v), (4, .int (nI u - 1))] → W p l e (rmn 0) s m ([.ref (bd 0), .long v, .int (nI j)] : List Value).toArray below meth c H locs 0 0 (MQ below (QI D A (fun r z => r = 1 ∧ ∃ T1 : Nat → Int32, z = mW cs bd (td + j) kp nx wh of cu T1 Rc Sz Nm By R ∧ (∀ i, i < td → T1 i = T i) ∧ ∀ i, i < j → T1 (td + i) = pb v (j - 1 - i) &&& 255)) ([.ref (bd 0), .long v, .int (nI j)] : List Value).toArray s 0 0 A) (F0 m 29 ls []) := by
    intro n
    induction n with
    | zero => intro i u T1 hic hT0 hT hm; exfalso; omega
    | succ n ih =>
      intro i u T1 hic hT0 hT hm H locs hP hD hS ls hl
      rcases u with _ | u
      · skip
        refine lv_iload hx hb d_M_put_29 (lv_at hl 2 rfl) ?_
        refine lv_if_lt (tgt := 71) hx hb d_M_put_31 (by decide) (fun hc31 => ?_) (fun hc31 => (absurd (show nI 0 - 1 < 0 by decide) hc31))
        refine lv_iconst (v := 1) hx hb d_M_put_71 (by decide) ?_
        exact r_zQ hB hr0 hlk (by decide) hP hD hS ⟨rfl, T1, by rw [show td + j = td + i by omega], hT0, fun q hq => hT q (by omega)⟩ d_M_put_72
      · skip
        rw [nI_pred] at hl
        refine lv_iload hx hb d_M_put_29 (lv_at hl 2 rfl) ?_
        refine n_if_lt hx hb (by omega) (tgt := 71) d_M_put_31 (by decide) ?_
        refine lv_aload_n hx hb d_M_put_34 rfl (lv_at hl 0 rfl) ?_
        refine gf_M_7 (v := .ref (bd 1)) hB hP 0 rfl rfl d_M_put_35 ?_
        refine lv_aload_n hx hb d_M_put_38 rfl (lv_at hl 0 rfl) ?_
        refine gf_M_30 (v := .int (nI (td + i))) hB hP 0 rfl rfl d_M_put_39 ?_
        refine lv_lload_n hx hb d_M_put_42 rfl (lv_at hl 1 rfl) ?_
        refine lv_bipush (v := nI 8) hx hb d_M_put_43 (by decide) ?_
        refine lv_iload hx hb d_M_put_45 (lv_at hl 2 rfl) ?_
        refine n_mul hx hb d_M_put_47 ?_
        refine lv_lshr (v := v >>> ((nI (8 * u)).toInt64 &&& 63)) hx hb d_M_put_48 rfl ?_
        refine lv_l2i (v := (v >>> ((nI (8 * u)).toInt64 &&& 63)).toInt32) hx hb d_M_put_49 rfl ?_
        refine lv_sipush (v := 255) hx hb d_M_put_50 (by decide) ?_
        refine lv_iand hx hb d_M_put_53 ?_
        refine n_iast hx hb hK hP hD hS 1 3 rfl rfl (by omega) (by decide) d_M_put_54 (fun H locs hP hD hS => ?_)
        have hP : va_P D classes (mW cs bd (td + i) kp nx wh of cu (upd T1 (td + i) (((v >>> ((nI (8 * u)).toInt64 &&& 63)).toInt32) &&& 255)) Rc Sz Nm By R) H := hP
        have hD : va_D A (mW cs bd (td + i) kp nx wh of cu (upd T1 (td + i) (((v >>> ((nI (8 * u)).toInt64 &&& 63)).toInt32) &&& 255)) Rc Sz Nm By R) := hD
        refine lv_aload_n hx hb d_M_put_55 rfl (lv_at hl 0 rfl) ?_
        refine lv_aload_n hx hb d_M_put_56 rfl (lv_at hl 0 rfl) ?_
        refine gf_M_30 (v := .int (nI (td + i))) hB hP 0 rfl rfl d_M_put_57 ?_
        refine lv_iconst (v := nI 1) hx hb d_M_put_60 (by decide) ?_
        refine n_add hx hb d_M_put_61 ?_
        refine pf_M_30 hB hP hD hS 0 rfl (Nat.le_of_ble_eq_true rfl) d_M_put_62 (fun H locs hP hD hS => ?_)
        have hP : va_P D classes (mW cs bd ((td + i) + 1) kp nx wh of cu (upd T1 (td + i) (((v >>> ((nI (8 * u)).toInt64 &&& 63)).toInt32) &&& 255)) Rc Sz Nm By R) H := hP
        have hD : va_D A (mW cs bd ((td + i) + 1) kp nx wh of cu (upd T1 (td + i) (((v >>> ((nI (8 * u)).toInt64 &&& 63)).toInt32) &&& 255)) Rc Sz Nm By R) := hD
        refine lv_iinc (k := 2) (v := nI u - 1) (lv' := [(4, .int (nI u - 1)), (0, .ref (bd 0)), (1, .long v)]) hx hb d_M_put_65 hl rfl (dec_eq _) (by decide) rfl (fun ls hl => ?_)
        refine lv_goto (tgt := 29) hx hb d_M_put_68 (by decide) ?_
        exact ih (i + 1) u (upd T1 (td + i) (pb v u &&& 255)) (by omega) (fun q hq => by rw [pk_un (by omega)]; exact hT0 q hq) (fun q hq => by
            by_cases e : q = i
            · subst e; rw [pk_us, show j - 1 - q = u by omega]
            · rw [pk_un (by omega)]; exact hT q (by omega)) (by omega) _ _ hP hD hS ls (lv_sub hl [1, 2, 0] rfl)
  refine lv_iload_n hx hb d_M_put_0 rfl (lv_at hl 2 rfl) ?_
  refine lv_iconst (v := nI 1) hx hb d_M_put_1 (by decide) ?_
  refine n_icmp_lt hx hb (by omega) (by omega) (tgt := 22) d_M_put_2 (by decide) (fun hc2 => (absurd hc2 (by omega))) (fun hc2 => ?_)
  refine lv_iload_n hx hb d_M_put_5 rfl (lv_at hl 2 rfl) ?_
  refine lv_bipush (v := nI 8) hx hb d_M_put_6 (by decide) ?_
  refine n_icmp_gt hx hb (by omega) (by omega) (tgt := 22) d_M_put_8 (by decide) (fun hc8 => (absurd hc8 (by omega))) (fun hc8 => ?_)
  refine lv_aload_n hx hb d_M_put_11 rfl (lv_at hl 0 rfl) ?_
  refine gf_M_30 (v := .int (nI td)) hB hP 0 rfl rfl d_M_put_12 ?_
  refine lv_iload_n hx hb d_M_put_15 rfl (lv_at hl 2 rfl) ?_
  refine n_add hx hb d_M_put_16 ?_
  refine lv_bipush (v := nI 100) hx hb d_M_put_17 (by decide) ?_
  refine n_icmp_le hx hb (by omega) (by omega) (tgt := 24) d_M_put_19 (by decide) (fun hc19 => ?_) (fun hc19 => (absurd hc19 (by omega)))
  refine lv_iload_n hx hb d_M_put_24 rfl (lv_at hl 2 rfl) ?_
  refine lv_iconst (v := 1) hx hb d_M_put_25 (by decide) ?_
  refine lv_isub hx hb d_M_put_26 ?_
  refine lv_istore (lv' := [(4, .int ((nI j) - 1)), (0, .ref (bd 0)), (1, .long v), (3, .int (nI j))]) hx hb d_M_put_27 hl (by decide) rfl (fun ls hl => ?_)
  exact loop (j + 1) 0 j T (by omega) (fun _ _ => rfl) (fun q hq => absurd hq (Nat.not_lt_zero q)) (by omega) _ _ hP hD hS ls (lv_sub hl [1, 2, 0] rfl)
set_option maxHeartbeats 4000000 in
set_option maxRecDepth 100000 in
/-- sectors of all that is kept -/
theorem c_M_used (l : Launch) {D : va_G} {A : Nat → Prop} {cs : Nat → ClassId} {bd : Nat → Nat} {td kp : Nat} {nx wh of cu : Int32} {T Rc Sz Nm By : Nat → Int32} {R : va_W} {sN : Nat → Nat} (hk : kp ≤ 41) (hs : ∀ k, sN k ≤ 100) (hz : ∀ k, k < kp → Sz k = nI (sN k) ∧ (Rc k = 0 → sN k = 0)) : Met l y_M_used (Cond.code y_M_used b_M_used 3 (some .int) :: gw) (rmn 1) (va_Pc [.ref (bd 0)] (St D cs A (mW cs bd td kp nx wh of cu T Rc Sz Nm By R))) (vp_Si (fun r => r = nI (us sN 0 kp))) 0 0 (fun _ => False) := by
  refine x_start (by decide) (Nat.le_of_ble_eq_true rfl) ?_
  intro p e s m below meth c hB hr hlk hin hP hD ls hl
  have hx := hB.1
  have hb := hB.2.1
  have hown := hB.2.2.2.1
  have hts := hB.2.2.2.2.1
  have hK := hB.2.2.2.2.2.1
  have hl : lv_has ls 3 [(0, .ref (bd 0))] := hl
  have loop : ∀ (n : Nat) (k : Nat), (k ≤ kp) → (kp + 1 ≤ k + n) → ∀ ls : Array Slot, lv_has ls 3 [(0, .ref (bd 0)), (1, .int (nI (us sN 0 k))), (2, .int (nI k))] → W p l e (rmn 1) s m ([.ref (bd 0)] : List Value).toArray below meth c s.heap [] 0 0 (MQ below (vp_Si (fun r => r = nI (us sN 0 kp))) ([.ref (bd 0)] : List Value).toArray s 0 0 (fun _ => False)) (F0 m 4 ls []) := by
    intro n
    induction n with
    | zero => intro k hk0 hm; exfalso; omega
    | succ n ih =>
      intro k hk0 hm ls hl
      refine lv_iload_n hx hb d_M_used_4 rfl (lv_at hl 2 rfl) ?_
      refine lv_aload_n hx hb d_M_used_5 rfl (lv_at hl 0 rfl) ?_
      refine gf_M_33 (v := .int (nI kp)) hB hP 0 rfl rfl d_M_used_6 ?_
      refine n_icmp_ge hx hb (by omega) (by omega) (tgt := 43) d_M_used_9 (by decide) (fun hc9 => ?_) (fun hc9 => ?_)
      · skip
        refine lv_iload_n hx hb d_M_used_43 rfl (lv_at hl 1 rfl) ?_
        exact r_iS hB hr hlk (by rw [show k = kp by omega]) d_M_used_44
      · skip
        refine lv_iload_n hx hb d_M_used_12 rfl (lv_at hl 1 rfl) ?_
        refine lv_aload_n hx hb d_M_used_13 rfl (lv_at hl 0 rfl) ?_
        refine gf_M_13 (v := .ref (bd 2)) hB hP 0 rfl rfl d_M_used_14 ?_
        refine lv_iload_n hx hb d_M_used_17 rfl (lv_at hl 2 rfl) ?_
        refine n_zald hx hb hK hP 2 1 rfl rfl (by omega) (by decide) d_M_used_18 ?_
        refine lv_if_eq (tgt := 34) hx hb d_M_used_19 (by decide) (fun hc19 => ?_) (fun hc19 => ?_)
        · skip
          refine lv_iconst (v := nI 1) hx hb d_M_used_34 (by decide) ?_
          refine n_add hx hb d_M_used_35 ?_
          refine tp_i (y := nI (us sN 0 (k + 1))) (congrArg nI (by rw [us_0, (hz k hc9).2 hc19]; rfl)) ?_
          refine lv_istore_n (lv' := [(1, .int (nI (us sN 0 (k + 1)))), (0, .ref (bd 0)), (2, .int (nI k))]) hx hb d_M_used_36 rfl hl (by decide) rfl (fun ls hl => ?_)
          refine n_inc (d := 1) (k := 2) (lv' := [(2, .int (nI (k + 1))), (1, .int (nI (us sN 0 (k + 1)))), (0, .ref (bd 0))]) hx hb d_M_used_37 (by decide) hl rfl (by decide) rfl (fun ls hl => ?_)
          refine lv_goto (tgt := 4) hx hb d_M_used_40 (by decide) ?_
          exact ih (k + 1) (by omega) (by omega) ls (lv_sub hl [2, 1, 0] rfl)
        · skip
          refine lv_aload_n hx hb d_M_used_22 rfl (lv_at hl 0 rfl) ?_
          refine gf_M_17 (v := .ref (bd 3)) hB hP 0 rfl rfl d_M_used_23 ?_
          refine lv_iload_n hx hb d_M_used_26 rfl (lv_at hl 2 rfl) ?_
          refine n_iald hx hb hK hP 3 3 rfl rfl (by omega) (by decide) d_M_used_27 ?_
          refine tp_i (y := nI (sN k)) (hz k hc9).1 ?_
          refine x_cT (As := [.int (nI (sN k))]) (rest := [.int (nI (us sN 0 k))]) (n := 1) hB (c_M_sectorsOf l (n := sN k) (by have := hs k; omega)) gi_M_36 (by decide +kernel) rfl rfl ⟨Nat.le_of_ble_eq_true rfl, Nat.le_of_ble_eq_true rfl⟩ hP hD hl.1 rfl (Nat.le_of_ble_eq_true rfl) d_M_used_28 ⟨Nat.le_of_ble_eq_true rfl, Nat.le_of_ble_eq_true rfl⟩ (fun r hr => ?_)
          subst hr
          refine lv_goto (tgt := 35) hx hb d_M_used_31 (by decide) ?_
          refine n_add hx hb d_M_used_35 ?_
          refine tp_i (y := nI (us sN 0 (k + 1))) (congrArg nI (by rw [us_0])) ?_
          refine lv_istore_n (lv' := [(1, .int (nI (us sN 0 (k + 1)))), (0, .ref (bd 0)), (2, .int (nI k))]) hx hb d_M_used_36 rfl hl (by decide) rfl (fun ls hl => ?_)
          refine n_inc (d := 1) (k := 2) (lv' := [(2, .int (nI (k + 1))), (1, .int (nI (us sN 0 (k + 1)))), (0, .ref (bd 0))]) hx hb d_M_used_37 (by decide) hl rfl (by decide) rfl (fun ls hl => ?_)
          refine lv_goto (tgt := 4) hx hb d_M_used_40 (by decide) ?_
          exact ih (k + 1) (by omega) (by omega) ls (lv_sub hl [2, 1, 0] rfl)
  refine lv_iconst (v := nI 0) hx hb d_M_used_0 (by decide) ?_
  refine lv_istore_n (lv' := [(1, .int (nI 0)), (0, .ref (bd 0))]) hx hb d_M_used_1 rfl hl (by decide) rfl (fun ls hl => ?_)
  refine lv_iconst (v := nI 0) hx hb d_M_used_2 (by decide) ?_
  refine lv_istore_n (lv' := [(2, .int (nI 0)), (1, .int (nI 0)), (0, .ref (bd 0))]) hx hb d_M_used_3 rfl hl (by decide) rfl (fun ls hl => ?_)
  exact loop (kp + 1) 0 (by omega) (by omega) ls (lv_sub hl [2, 1, 0] rfl)
set_option maxHeartbeats 4000000 in
set_option maxRecDepth 100000 in
/-- records among what is kept -/
theorem c_M_records (l : Launch) {D : va_G} {A : Nat → Prop} {cs : Nat → ClassId} {bd : Nat → Nat} {td kp : Nat} {nx wh of cu : Int32} {T Rc Sz Nm By : Nat → Int32} {R : va_W} (hk : kp ≤ 41) : Met l y_M_records (Cond.code y_M_records b_M_records 3 (some .int) :: gw) (rmn 0) (va_Pc [.ref (bd 0)] (St D cs A (mW cs bd td kp nx wh of cu T Rc Sz Nm By R))) (vp_Si (fun r => r = nI (mn (qR Rc) 0 kp))) 0 0 (fun _ => False) := by
  refine x_start (by decide) (Nat.le_of_ble_eq_true rfl) ?_
  intro p e s m below meth c hB hr hlk hin hP hD ls hl
  have hx := hB.1
  have hb := hB.2.1
  have hown := hB.2.2.2.1
  have hts := hB.2.2.2.2.1
  have hK := hB.2.2.2.2.2.1
  have hl : lv_has ls 3 [(0, .ref (bd 0))] := hl
  have loop : ∀ (n : Nat) (k : Nat), (k ≤ kp) → (kp + 1 ≤ k + n) → ∀ ls : Array Slot, lv_has ls 3 [(0, .ref (bd 0)), (1, .int (nI (mn (qR Rc) 0 k))), (2, .int (nI k))] → W p l e (rmn 0) s m ([.ref (bd 0)] : List Value).toArray below meth c s.heap [] 0 0 (MQ below (vp_Si (fun r => r = nI (mn (qR Rc) 0 kp))) ([.ref (bd 0)] : List Value).toArray s 0 0 (fun _ => False)) (F0 m 4 ls []) := by
    intro n
    induction n with
    | zero => intro k hk0 hm; exfalso; omega
    | succ n ih =>
      intro k hk0 hm ls hl
      refine lv_iload_n hx hb d_M_records_4 rfl (lv_at hl 2 rfl) ?_
      refine lv_aload_n hx hb d_M_records_5 rfl (lv_at hl 0 rfl) ?_
      refine gf_M_33 (v := .int (nI kp)) hB hP 0 rfl rfl d_M_records_6 ?_
      refine n_icmp_ge hx hb (by omega) (by omega) (tgt := 35) d_M_records_9 (by decide) (fun hc9 => ?_) (fun hc9 => ?_)
      · skip
        refine lv_iload_n hx hb d_M_records_35 rfl (lv_at hl 1 rfl) ?_
        exact r_iS hB hr hlk (by rw [show k = kp by omega]) d_M_records_36
      · skip
        refine lv_aload_n hx hb d_M_records_12 rfl (lv_at hl 0 rfl) ?_
        refine gf_M_13 (v := .ref (bd 2)) hB hP 0 rfl rfl d_M_records_13 ?_
        refine lv_iload_n hx hb d_M_records_16 rfl (lv_at hl 2 rfl) ?_
        refine n_zald hx hb hK hP 2 1 rfl rfl (by omega) (by decide) d_M_records_17 ?_
        refine lv_if_eq (tgt := 27) hx hb d_M_records_18 (by decide) (fun hc18 => ?_) (fun hc18 => ?_)
        · skip
          refine lv_iload_n hx hb d_M_records_27 rfl (lv_at hl 1 rfl) ?_
          refine tp_i (y := nI (mn (qR Rc) 0 (k + 1))) (congrArg nI (by rw [mn_0, if_pos (qR_t hc18), Nat.add_zero])) ?_
          refine lv_istore_n (lv' := [(1, .int (nI (mn (qR Rc) 0 (k + 1)))), (0, .ref (bd 0)), (2, .int (nI k))]) hx hb d_M_records_28 rfl hl (by decide) rfl (fun ls hl => ?_)
          refine n_inc (d := 1) (k := 2) (lv' := [(2, .int (nI (k + 1))), (1, .int (nI (mn (qR Rc) 0 (k + 1)))), (0, .ref (bd 0))]) hx hb d_M_records_29 (by decide) hl rfl (by decide) rfl (fun ls hl => ?_)
          refine lv_goto (tgt := 4) hx hb d_M_records_32 (by decide) ?_
          exact ih (k + 1) (by omega) (by omega) ls (lv_sub hl [2, 1, 0] rfl)
        · skip
          refine lv_iload_n hx hb d_M_records_21 rfl (lv_at hl 1 rfl) ?_
          refine lv_iconst (v := nI 1) hx hb d_M_records_22 (by decide) ?_
          refine n_add hx hb d_M_records_23 ?_
          refine lv_goto (tgt := 28) hx hb d_M_records_24 (by decide) ?_
          refine tp_i (y := nI (mn (qR Rc) 0 (k + 1))) (congrArg nI (by rw [mn_0, if_neg (qR_f hc18)])) ?_
          refine lv_istore_n (lv' := [(1, .int (nI (mn (qR Rc) 0 (k + 1)))), (0, .ref (bd 0)), (2, .int (nI k))]) hx hb d_M_records_28 rfl hl (by decide) rfl (fun ls hl => ?_)
          refine n_inc (d := 1) (k := 2) (lv' := [(2, .int (nI (k + 1))), (1, .int (nI (mn (qR Rc) 0 (k + 1)))), (0, .ref (bd 0))]) hx hb d_M_records_29 (by decide) hl rfl (by decide) rfl (fun ls hl => ?_)
          refine lv_goto (tgt := 4) hx hb d_M_records_32 (by decide) ?_
          exact ih (k + 1) (by omega) (by omega) ls (lv_sub hl [2, 1, 0] rfl)
  refine lv_iconst (v := nI 0) hx hb d_M_records_0 (by decide) ?_
  refine lv_istore_n (lv' := [(1, .int (nI 0)), (0, .ref (bd 0))]) hx hb d_M_records_1 rfl hl (by decide) rfl (fun ls hl => ?_)
  refine lv_iconst (v := nI 0) hx hb d_M_records_2 (by decide) ?_
  refine lv_istore_n (lv' := [(2, .int (nI 0)), (1, .int (nI 0)), (0, .ref (bd 0))]) hx hb d_M_records_3 rfl hl (by decide) rfl (fun ls hl => ?_)
  exact loop (kp + 1) 0 (by omega) (by omega) ls (lv_sub hl [2, 1, 0] rfl)
set_option maxHeartbeats 4000000 in
set_option maxRecDepth 100000 in
/-- no cut was told -/
theorem c_M_isCut (l : Launch) {D : va_G} {A : Nat → Prop} {cs : Nat → ClassId} {bd : Nat → Nat} {td kp : Nat} {nx wh of cu : Int32} {T Rc Sz Nm By : Nat → Int32} {R : va_W}  : Met l y_M_isCut (Cond.code y_M_isCut b_M_isCut 1 (some .boolean) :: gw) (rmn 0) (va_Pc [.ref (bd 0)] (St D cs A (mW cs bd td kp nx wh of (-1) T Rc Sz Nm By R))) (QI D A (fun r z => r = 0 ∧ z = mW cs bd td kp nx wh of (-1) T Rc Sz Nm By R)) 0 0 A := by
  refine x_start (by decide) (Nat.le_of_ble_eq_true rfl) ?_
  intro p e s m below meth c hB hr hlk hin hP hD ls hl
  have hx := hB.1
  have hb := hB.2.1
  have hown := hB.2.2.2.1
  have hts := hB.2.2.2.2.1
  have hK := hB.2.2.2.2.2.1
  have hS : va_S A s.heap s.heap [] := va_S.rf
  have hl : lv_has ls 1 [(0, .ref (bd 0))] := hl
  have hr0 := hr
  refine lv_aload_n hx hb d_M_isCut_0 rfl (lv_at hl 0 rfl) ?_
  refine gf_M_26 (v := .int (-1)) hB hP 0 rfl rfl d_M_isCut_1 ?_
  refine lv_iconst (v := (-1)) hx hb d_M_isCut_4 (by decide) ?_
  refine lv_icmp_ne (tgt := 10) hx hb d_M_isCut_5 (by decide) (fun hc5 => (absurd rfl hc5)) (fun hc5 => ?_)
  refine lv_iconst (v := nI 0) hx hb d_M_isCut_8 (by decide) ?_
  exact r_zQ hB hr0 hlk (by decide) hP hD hS ⟨rfl, rfl⟩ d_M_isCut_9
set_option maxHeartbeats 4000000 in
set_option maxRecDepth 100000 in
/-- a cut was told: the power goes -/
theorem c_M_isCutC (l : Launch) {D : va_G} {A : Nat → Prop} {cs : Nat → ClassId} {bd : Nat → Nat} {td kp : Nat} {nx wh of cu : Int32} {T Rc Sz Nm By : Nat → Int32} {R : va_W} {q : Nat} (hq : q ≤ 8) : Met l y_M_isCut (Cond.code y_M_isCut b_M_isCut 1 (some .boolean) :: gw) (rmn 0) (va_Pc [.ref (bd 0)] (St D cs A (mW cs bd td kp nx wh of (nI q) T Rc Sz Nm By R))) (QI D A (fun r z => r = 1 ∧ z = mW cs bd td kp nx wh (nI 1) (-1) T Rc Sz Nm By R)) 0 0 A := by
  refine x_start (by decide) (Nat.le_of_ble_eq_true rfl) ?_
  intro p e s m below meth c hB hr hlk hin hP hD ls hl
  have hx := hB.1
  have hb := hB.2.1
  have hown := hB.2.2.2.1
  have hts := hB.2.2.2.2.1
  have hK := hB.2.2.2.2.2.1
  have hS : va_S A s.heap s.heap [] := va_S.rf
  have hl : lv_has ls 1 [(0, .ref (bd 0))] := hl
  have hr0 := hr
  refine lv_aload_n hx hb d_M_isCut_0 rfl (lv_at hl 0 rfl) ?_
  refine gf_M_26 (v := .int (nI q)) hB hP 0 rfl rfl d_M_isCut_1 ?_
  refine lv_iconst (v := (-1)) hx hb d_M_isCut_4 (by decide) ?_
  refine lv_icmp_ne (tgt := 10) hx hb d_M_isCut_5 (by decide) (fun hc5 => ?_) (fun hc5 => (absurd hc5 (nI_nm1 (by omega))))
  refine lv_aload_n hx hb d_M_isCut_10 rfl (lv_at hl 0 rfl) ?_
  refine lv_iconst (v := (-1)) hx hb d_M_isCut_11 (by decide) ?_
  refine pf_M_26 hB hP hD hS 0 rfl (Nat.le_of_ble_eq_true rfl) d_M_isCut_12 (fun H locs hP hD hS => ?_)
  have hP : va_P D classes (mW cs bd td kp nx wh of (-1) T Rc Sz Nm By R) H := hP
  have hD : va_D A (mW cs bd td kp nx wh of (-1) T Rc Sz Nm By R) := hD
  refine lv_aload_n hx hb d_M_isCut_15 rfl (lv_at hl 0 rfl) ?_
  refine lv_iconst (v := nI 1) hx hb d_M_isCut_16 (by decide) ?_
  refine pf_M_40 hB hP hD hS 0 rfl (by decide) (by decide) (Nat.le_of_ble_eq_true rfl) d_M_isCut_17 (fun H locs hP hD hS => ?_)
  have hP : va_P D classes (mW cs bd td kp nx wh (nI 1) (-1) T Rc Sz Nm By R) H := hP
  have hD : va_D A (mW cs bd td kp nx wh (nI 1) (-1) T Rc Sz Nm By R) := hD
  refine lv_iconst (v := nI 1) hx hb d_M_isCut_20 (by decide) ?_
  exact r_zQ hB hr0 hlk (by decide) hP hD hS ⟨rfl, rfl⟩ d_M_isCut_21
set_option maxHeartbeats 4000000 in
set_option maxRecDepth 100000 in
/-- cut -/
theorem c_M_cut (l : Launch) {D : va_G} {A : Nat → Prop} {cs : Nat → ClassId} {bd : Nat → Nat} {td kp : Nat} {nx wh of cu : Int32} {T Rc Sz Nm By : Nat → Int32} {R : va_W} {x : Int32}  : Met l y_M_cut (Cond.code y_M_cut b_M_cut 2 (some .boolean) :: gw) (rmn 0) (va_Pc [.ref (bd 0), .int x] (St D cs A (mW cs bd td kp nx wh of cu T Rc Sz Nm By R))) (QI D A (fun r z => r = (if x < -1 ∨ 8 < x then 0 else 1) ∧ z = mW cs bd td kp nx wh of (if x < -1 ∨ 8 < x then cu else x) T Rc Sz Nm By R)) 0 0 A := by
  refine x_start (by decide) (Nat.le_of_ble_eq_true rfl) ?_
  intro p e s m below meth c hB hr hlk hin hP hD ls hl
  have hx := hB.1
  have hb := hB.2.1
  have hown := hB.2.2.2.1
  have hts := hB.2.2.2.2.1
  have hK := hB.2.2.2.2.2.1
  have hS : va_S A s.heap s.heap [] := va_S.rf
  have hl : lv_has ls 2 [(0, .ref (bd 0)), (1, .int x)] := hl
  have hr0 := hr
  refine lv_iload_n hx hb d_M_cut_0 rfl (lv_at hl 1 rfl) ?_
  refine lv_iconst (v := (-1)) hx hb d_M_cut_1 (by decide) ?_
  refine lv_icmp_lt (tgt := 11) hx hb d_M_cut_2 (by decide) (fun hc2 => ?_) (fun hc2 => ?_)
  · skip
    refine lv_iconst (v := 0) hx hb d_M_cut_11 (by decide) ?_
    exact r_zQ hB hr0 hlk (by decide) hP hD hS (by rw [if_pos (Or.inl hc2), if_pos (Or.inl hc2)]; exact ⟨rfl, rfl⟩) d_M_cut_12
  · skip
    refine lv_iload_n hx hb d_M_cut_5 rfl (lv_at hl 1 rfl) ?_
    refine lv_bipush (v := 8) hx hb d_M_cut_6 (by decide) ?_
    refine lv_icmp_le (tgt := 13) hx hb d_M_cut_8 (by decide) (fun hc8 => ?_) (fun hc8 => ?_)
    · skip
      refine lv_aload_n hx hb d_M_cut_13 rfl (lv_at hl 0 rfl) ?_
      refine lv_iload_n hx hb d_M_cut_14 rfl (lv_at hl 1 rfl) ?_
      refine pf_M_26 hB hP hD hS 0 rfl (Nat.le_of_ble_eq_true rfl) d_M_cut_15 (fun H locs hP hD hS => ?_)
      have hP : va_P D classes (mW cs bd td kp nx wh of x T Rc Sz Nm By R) H := hP
      have hD : va_D A (mW cs bd td kp nx wh of x T Rc Sz Nm By R) := hD
      refine lv_iconst (v := 1) hx hb d_M_cut_18 (by decide) ?_
      exact r_zQ hB hr0 hlk (by decide) hP hD hS (by rw [if_neg (fun q => q.elim hc2 (Int32.not_lt.mpr hc8)), if_neg (fun q => q.elim hc2 (Int32.not_lt.mpr hc8))]; exact ⟨rfl, rfl⟩) d_M_cut_19
    · skip
      refine lv_iconst (v := 0) hx hb d_M_cut_11 (by decide) ?_
      exact r_zQ hB hr0 hlk (by decide) hP hD hS (by rw [if_pos (Or.inr (Int32.not_le.mp hc8)), if_pos (Or.inr (Int32.not_le.mp hc8))]; exact ⟨rfl, rfl⟩) d_M_cut_12
set_option maxHeartbeats 4000000 in
set_option maxRecDepth 100000 in
/-- start with power: refused -/
theorem c_M_startN (l : Launch) {D : va_G} {A : Nat → Prop} {cs : Nat → ClassId} {bd : Nat → Nat} {td kp : Nat} {nx wh of cu : Int32} {T Rc Sz Nm By : Nat → Int32} {R : va_W} (h : of = 0) : Met l y_M_start (Cond.code y_M_start b_M_start 1 (some .int) :: gw) (rmn 1) (va_Pc [.ref (bd 0)] (St D cs A (mW cs bd td kp nx wh of cu T Rc Sz Nm By R))) (QI D A (fun r z => r = -1 ∧ z = mW cs bd td kp nx wh of cu T Rc Sz Nm By R)) 0 0 A := by
  refine x_start (by decide) (Nat.le_of_ble_eq_true rfl) ?_
  intro p e s m below meth c hB hr hlk hin hP hD ls hl
  have hx := hB.1
  have hb := hB.2.1
  have hown := hB.2.2.2.1
  have hts := hB.2.2.2.2.1
  have hK := hB.2.2.2.2.2.1
  have hS : va_S A s.heap s.heap [] := va_S.rf
  have hl : lv_has ls 1 [(0, .ref (bd 0))] := hl
  have hr0 := hr
  refine lv_aload_n hx hb d_M_start_0 rfl (lv_at hl 0 rfl) ?_
  refine gf_M_40 (v := .int of) hB hP 0 rfl rfl d_M_start_1 ?_
  refine lv_if_ne (tgt := 9) hx hb d_M_start_4 (by decide) (fun hc4 => (absurd h hc4)) (fun hc4 => ?_)
  refine lv_iconst (v := (-1)) hx hb d_M_start_7 (by decide) ?_
  exact r_iQ hB hr0 hlk hP hD hS ⟨rfl, rfl⟩ d_M_start_8
set_option maxHeartbeats 4000000 in
set_option maxRecDepth 100000 in
/-- start -/
theorem c_M_start (l : Launch) {D : va_G} {A : Nat → Prop} {cs : Nat → ClassId} {bd : Nat → Nat} {td kp : Nat} {nx wh of cu : Int32} {T Rc Sz Nm By : Nat → Int32} {R : va_W} (hk : kp ≤ 41) (h : ¬ of = 0) : Met l y_M_start (Cond.code y_M_start b_M_start 1 (some .int) :: gw) (rmn 1) (va_Pc [.ref (bd 0)] (St D cs A (mW cs bd td kp nx wh of cu T Rc Sz Nm By R))) (QI D A (fun r z => r = nI (mn (qR Rc) 0 kp) ∧ z = mW cs bd td kp nx wh (nI 0) cu T Rc Sz Nm By R)) 0 0 A := by
  refine x_start (by decide) (Nat.le_of_ble_eq_true rfl) ?_
  intro p e s m below meth c hB hr hlk hin hP hD ls hl
  have hx := hB.1
  have hb := hB.2.1
  have hown := hB.2.2.2.1
  have hts := hB.2.2.2.2.1
  have hK := hB.2.2.2.2.2.1
  have hS : va_S A s.heap s.heap [] := va_S.rf
  have hl : lv_has ls 1 [(0, .ref (bd 0))] := hl
  have hr0 := hr
  refine lv_aload_n hx hb d_M_start_0 rfl (lv_at hl 0 rfl) ?_
  refine gf_M_40 (v := .int of) hB hP 0 rfl rfl d_M_start_1 ?_
  refine lv_if_ne (tgt := 9) hx hb d_M_start_4 (by decide) (fun hc4 => ?_) (fun hc4 => (absurd hc4 h))
  refine lv_aload_n hx hb d_M_start_9 rfl (lv_at hl 0 rfl) ?_
  refine lv_iconst (v := nI 0) hx hb d_M_start_10 (by decide) ?_
  refine pf_M_40 hB hP hD hS 0 rfl (by decide) (by decide) (Nat.le_of_ble_eq_true rfl) d_M_start_11 (fun H locs hP hD hS => ?_)
  have hP : va_P D classes (mW cs bd td kp nx wh (nI 0) cu T Rc Sz Nm By R) H := hP
  have hD : va_D A (mW cs bd td kp nx wh (nI 0) cu T Rc Sz Nm By R) := hD
  refine lv_aload_n hx hb d_M_start_14 rfl (lv_at hl 0 rfl) ?_
  refine x_cSi (As := []) (rest := []) (n := 0) hB (c_M_records l hk) gi_M_58 (by decide +kernel) rfl rfl ⟨Nat.le_of_ble_eq_true rfl, Nat.le_of_ble_eq_true rfl⟩ hP hD 0 rfl rfl hl.1 rfl (Nat.le_of_ble_eq_true rfl) d_M_start_15 ⟨Nat.le_of_ble_eq_true rfl, Nat.le_of_ble_eq_true rfl⟩ (fun r hr => ?_)
  subst hr
  exact r_iQ hB hr0 hlk hP hD hS ⟨rfl, rfl⟩ d_M_start_18
set_option maxHeartbeats 4000000 in
set_option maxRecDepth 100000 in
/-- no power, or a negative place: none -/
theorem c_M_placeOfN (l : Launch) {D : va_G} {A : Nat → Prop} {cs : Nat → ClassId} {bd : Nat → Nat} {td kp : Nat} {nx wh of cu : Int32} {T Rc Sz Nm By : Nat → Int32} {R : va_W} {x : Int32} (hk : kp ≤ 41) (h : ¬ of = 0 ∨ x < 0) : Met l y_M_placeOf (Cond.code y_M_placeOf b_M_placeOf 4 (some .int) :: gw) (rmn 0) (va_Pc [.ref (bd 0), .int x] (St D cs A (mW cs bd td kp nx wh of cu T Rc Sz Nm By R))) (vp_Si (fun r => r = -1)) 0 0 (fun _ => False) := by
  refine x_start (by decide) (Nat.le_of_ble_eq_true rfl) ?_
  intro p e s m below meth c hB hr hlk hin hP hD ls hl
  have hx := hB.1
  have hb := hB.2.1
  have hown := hB.2.2.2.1
  have hts := hB.2.2.2.2.1
  have hK := hB.2.2.2.2.2.1
  have hl : lv_has ls 4 [(0, .ref (bd 0)), (1, .int x)] := hl
  refine lv_iload_n hx hb d_M_placeOf_0 rfl (lv_at hl 1 rfl) ?_
  refine lv_istore_n (lv' := [(2, .int x), (0, .ref (bd 0)), (1, .int x)]) hx hb d_M_placeOf_1 rfl hl (by decide) rfl (fun ls hl => ?_)
  refine lv_iconst (v := nI 0) hx hb d_M_placeOf_2 (by decide) ?_
  refine lv_istore_n (lv' := [(3, .int (nI 0)), (2, .int x), (0, .ref (bd 0)), (1, .int x)]) hx hb d_M_placeOf_3 rfl hl (by decide) rfl (fun ls hl => ?_)
  refine lv_iload_n hx hb d_M_placeOf_4 rfl (lv_at hl 0 rfl) ?_
  refine lv_aload_n hx hb d_M_placeOf_5 rfl (lv_at hl 2 rfl) ?_
  refine gf_M_33 (v := .int (nI kp)) hB hP 0 rfl rfl d_M_placeOf_6 ?_
  refine n_icmp_ge hx hb (by omega) (by omega) (tgt := 51) d_M_placeOf_9 (by decide) (fun hc9 => ?_) (fun hc9 => ?_)
  · skip
    refine lv_iconst (v := (-1)) hx hb d_M_placeOf_51 (by decide) ?_
    exact r_iS hB hr hlk rfl d_M_placeOf_52
  · skip
    refine lv_iload_n hx hb d_M_placeOf_12 rfl (lv_at hl 3 rfl) ?_
    refine lv_if_lt (tgt := 51) hx hb d_M_placeOf_13 (by decide) (fun hc13 => ?_) (fun hc13 => ?_)
    · skip
      refine lv_iconst (v := (-1)) hx hb d_M_placeOf_51 (by decide) ?_
      exact r_iS hB hr hlk rfl d_M_placeOf_52
    · skip
      refine lv_aload_n hx hb d_M_placeOf_16 rfl (lv_at hl 2 rfl) ?_
      refine gf_M_40 (v := .int of) hB hP 0 rfl rfl d_M_placeOf_17 ?_
      refine lv_if_ne (tgt := 51) hx hb d_M_placeOf_20 (by decide) (fun hc20 => ?_) (fun hc20 => (absurd hc20 (h.resolve_right hc13)))
      refine lv_iconst (v := (-1)) hx hb d_M_placeOf_51 (by decide) ?_
      exact r_iS hB hr hlk rfl d_M_placeOf_52
set_option maxHeartbeats 4000000 in
set_option maxRecDepth 100000 in
/-- the place of the x-th record -/
theorem c_M_placeOf (l : Launch) {D : va_G} {A : Nat → Prop} {cs : Nat → ClassId} {bd : Nat → Nat} {td kp : Nat} {nx wh of cu : Int32} {T Rc Sz Nm By : Nat → Int32} {R : va_W} {x : Nat} (hk : kp ≤ 41) (h : of = 0) (hx1 : x < 2 ^ 31) : Met l y_M_placeOf (Cond.code y_M_placeOf b_M_placeOf 4 (some .int) :: gw) (rmn 0) (va_Pc [.ref (bd 0), .int (nI x)] (St D cs A (mW cs bd td kp nx wh of cu T Rc Sz Nm By R))) (vp_Si (fun r => r = plc (pf (qR Rc) kp 0 x))) 0 0 (fun _ => False) := by
  refine x_start (by decide) (Nat.le_of_ble_eq_true rfl) ?_
  intro p e s m below meth c hB hr hlk hin hP hD ls hl
  have hx := hB.1
  have hb := hB.2.1
  have hown := hB.2.2.2.1
  have hts := hB.2.2.2.2.1
  have hK := hB.2.2.2.2.2.1
  have hl : lv_has ls 4 [(0, .ref (bd 0)), (1, .int (nI x))] := hl
  have loop : ∀ (n : Nat) (k : Nat) (i : Nat), (k ≤ kp) → (i < 2 ^ 31) → (pf (qR Rc) (kp - k) k i = pf (qR Rc) kp 0 x) → (kp + 1 ≤ k + n) → ∀ ls : Array Slot, lv_has ls 4 [(0, .ref (bd 0)), (1, .int (nI x)), (2, .int (nI i)), (3, .int (nI k))] → W p l e (rmn 0) s m ([.ref (bd 0), .int (nI x)] : List Value).toArray below meth c s.heap [] 0 0 (MQ below (vp_Si (fun r => r = plc (pf (qR Rc) kp 0 x))) ([.ref (bd 0), .int (nI x)] : List Value).toArray s 0 0 (fun _ => False)) (F0 m 4 ls []) := by
    intro n
    induction n with
    | zero => intro k i hk0 hi hres hm; exfalso; omega
    | succ n ih =>
      intro k i hk0 hi hres hm ls hl
      refine lv_iload_n hx hb d_M_placeOf_4 rfl (lv_at hl 3 rfl) ?_
      refine lv_aload_n hx hb d_M_placeOf_5 rfl (lv_at hl 0 rfl) ?_
      refine gf_M_33 (v := .int (nI kp)) hB hP 0 rfl rfl d_M_placeOf_6 ?_
      refine n_icmp_ge hx hb (by omega) (by omega) (tgt := 51) d_M_placeOf_9 (by decide) (fun hc9 => ?_) (fun hc9 => ?_)
      · skip
        refine lv_iconst (v := (-1)) hx hb d_M_placeOf_51 (by decide) ?_
        exact r_iS hB hr hlk (by rw [← hres, pf_end hc9]; rfl) d_M_placeOf_52
      · skip
        refine lv_iload_n hx hb d_M_placeOf_12 rfl (lv_at hl 1 rfl) ?_
        refine n_if_lt hx hb (by omega) (tgt := 51) d_M_placeOf_13 (by decide) ?_
        refine lv_aload_n hx hb d_M_placeOf_16 rfl (lv_at hl 0 rfl) ?_
        refine gf_M_40 (v := .int of) hB hP 0 rfl rfl d_M_placeOf_17 ?_
        refine lv_if_ne (tgt := 51) hx hb d_M_placeOf_20 (by decide) (fun hc20 => (absurd h hc20)) (fun hc20 => ?_)
        refine lv_aload_n hx hb d_M_placeOf_23 rfl (lv_at hl 0 rfl) ?_
        refine gf_M_13 (v := .ref (bd 2)) hB hP 0 rfl rfl d_M_placeOf_24 ?_
        refine lv_iload_n hx hb d_M_placeOf_27 rfl (lv_at hl 3 rfl) ?_
        refine n_zald hx hb hK hP 2 1 rfl rfl (by omega) (by decide) d_M_placeOf_28 ?_
        refine lv_if_ne (tgt := 35) hx hb d_M_placeOf_29 (by decide) (fun hc29 => ?_) (fun hc29 => ?_)
        · skip
          refine lv_iload_n hx hb d_M_placeOf_35 rfl (lv_at hl 2 rfl) ?_
          refine n_if_ne hx hb (by omega) (tgt := 41) d_M_placeOf_36 (by decide) (fun hc36 => ?_) (fun hc36 => ?_)
          · skip
            obtain ⟨i, rfl⟩ : ∃ j, i = j + 1 := ⟨i - 1, by omega⟩
            have hres := (pf_next (i := i) hc9 (qR_f hc29)).symm.trans hres
            refine lv_iload_n hx hb d_M_placeOf_41 rfl (lv_at hl 2 rfl) ?_
            refine lv_iconst (v := nI 1) hx hb d_M_placeOf_42 (by decide) ?_
            refine n_sub hx hb (by omega) d_M_placeOf_43 ?_
            refine tp_i (y := nI i) (congrArg nI (by omega)) ?_
            refine lv_istore_n (lv' := [(2, .int (nI i)), (0, .ref (bd 0)), (1, .int (nI x)), (3, .int (nI k))]) hx hb d_M_placeOf_44 rfl hl (by decide) rfl (fun ls hl => ?_)
            refine n_inc (d := 1) (k := 3) (lv' := [(3, .int (nI (k + 1))), (2, .int (nI i)), (0, .ref (bd 0)), (1, .int (nI x))]) hx hb d_M_placeOf_45 (by decide) hl rfl (by decide) rfl (fun ls hl => ?_)
            refine lv_goto (tgt := 4) hx hb d_M_placeOf_48 (by decide) ?_
            exact ih (k + 1) i (by omega) (by omega) hres (by omega) ls (lv_sub hl [2, 3, 1, 0] rfl)
          · skip
            refine lv_iload_n hx hb d_M_placeOf_39 rfl (lv_at hl 3 rfl) ?_
            exact r_iS hB hr hlk (by rw [← hres, hc36, pf_hit hc9 (qR_f hc29)]; rfl) d_M_placeOf_40
        · skip
          have hres := (pf_drop (i := i) hc9 (qR_t hc29)).symm.trans hres
          refine lv_goto (tgt := 45) hx hb d_M_placeOf_32 (by decide) ?_
          refine n_inc (d := 1) (k := 3) (lv' := [(3, .int (nI (k + 1))), (0, .ref (bd 0)), (1, .int (nI x)), (2, .int (nI i))]) hx hb d_M_placeOf_45 (by decide) hl rfl (by decide) rfl (fun ls hl => ?_)
          refine lv_goto (tgt := 4) hx hb d_M_placeOf_48 (by decide) ?_
          exact ih (k + 1) i (by omega) (by omega) hres (by omega) ls (lv_sub hl [1, 2, 3, 0] rfl)
  refine lv_iload_n hx hb d_M_placeOf_0 rfl (lv_at hl 1 rfl) ?_
  refine lv_istore_n (lv' := [(2, .int (nI x)), (0, .ref (bd 0)), (1, .int (nI x))]) hx hb d_M_placeOf_1 rfl hl (by decide) rfl (fun ls hl => ?_)
  refine lv_iconst (v := nI 0) hx hb d_M_placeOf_2 (by decide) ?_
  refine lv_istore_n (lv' := [(3, .int (nI 0)), (2, .int (nI x)), (0, .ref (bd 0)), (1, .int (nI x))]) hx hb d_M_placeOf_3 rfl hl (by decide) rfl (fun ls hl => ?_)
  exact loop (kp + 1) 0 x (by omega) hx1 rfl (by omega) ls (lv_sub hl [2, 3, 1, 0] rfl)
theorem c_M_placeOfA (l : Launch) {D : va_G} {A : Nat → Prop} {cs : Nat → ClassId} {bd : Nat → Nat} {td kp : Nat} {nx wh of cu : Int32} {T Rc Sz Nm By : Nat → Int32} {R : va_W} {x : Int32} (hk : kp ≤ 41) : Met l y_M_placeOf (Cond.code y_M_placeOf b_M_placeOf 4 (some .int) :: gw) (rmn 0) (va_Pc [.ref (bd 0), .int x] (St D cs A (mW cs bd td kp nx wh of cu T Rc Sz Nm By R))) (vp_Si (fun r => r = plc (fdm of Rc kp x))) 0 0 (fun _ => False) := by
  by_cases h : ¬ of = 0 ∨ x < 0
  · have := c_M_placeOfN l (D := D) (A := A) (cs := cs) (bd := bd) (td := td) (nx := nx) (wh := wh) (cu := cu) (T := T) (Rc := Rc) (Sz := Sz) (Nm := Nm) (By := By) (R := R) (x := x) hk h
    unfold fdm
    rw [if_pos h]
    exact this
  · have hof : of = 0 := Classical.byContradiction (fun q => h (Or.inl q))
    obtain ⟨j, hj, rfl⟩ := nI_of (x := x) (fun q => h (Or.inr q))
    have := c_M_placeOf l (D := D) (A := A) (cs := cs) (bd := bd) (td := td) (nx := nx) (wh := wh) (cu := cu) (T := T) (Rc := Rc) (Sz := Sz) (Nm := Nm) (By := By) (R := R) (x := j) hk hof hj
    unfold fdm
    rw [if_neg h, nI_clamp hj]
    exact this
def recM (of : Int32) (Rc Sz Nm : Nat → Int32) (kp : Nat) (x y : Int32) : Int32 := match fdm of Rc kp x with
  | none => -1
  | some k => if y = 0 then Sz k else if y = 1 then Nm k else -1
theorem recM_n {of : Int32} {Rc Sz Nm : Nat → Int32} {kp : Nat} {x y : Int32} (h : fdm of Rc kp x = none) : recM of Rc Sz Nm kp x y = -1 := by unfold recM; rw [h]
theorem recM_s {of : Int32} {Rc Sz Nm : Nat → Int32} {kp k : Nat} {x y : Int32} (h : fdm of Rc kp x = some k) : recM of Rc Sz Nm kp x y = if y = 0 then Sz k else if y = 1 then Nm k else -1 := by unfold recM; rw [h]
def mby (Sz By : Nat → Int32) (sN : Nat → Nat) (k y b : Nat) : Int32 := if y + b < sN k then By (100 * k + y + b) else 0
def bytM (of : Int32) (Rc Sz By : Nat → Int32) (sN : Nat → Nat) (kp : Nat) (x y : Int32) : Int64 := match fdm of Rc kp x with
  | none => -1
  | some k => if y < 0 then -1 else bvl (mby Sz By sN k y.toNatClampNeg) 8
theorem bytM_n {of : Int32} {Rc Sz By : Nat → Int32} {sN : Nat → Nat} {kp : Nat} {x y : Int32} (h : fdm of Rc kp x = none) : bytM of Rc Sz By sN kp x y = -1 := by unfold bytM; rw [h]
theorem bytM_s {of : Int32} {Rc Sz By : Nat → Int32} {sN : Nat → Nat} {kp k : Nat} {x y : Int32} (h : fdm of Rc kp x = some k) : bytM of Rc Sz By sN kp x y = if y < 0 then -1 else bvl (mby Sz By sN k y.toNatClampNeg) 8 := by unfold bytM; rw [h]
set_option maxHeartbeats 4000000 in
set_option maxRecDepth 100000 in
/-- size or number of the x-th record -/
theorem c_M_record (l : Launch) {D : va_G} {A : Nat → Prop} {cs : Nat → ClassId} {bd : Nat → Nat} {td kp : Nat} {nx wh of cu : Int32} {T Rc Sz Nm By : Nat → Int32} {R : va_W} {x y : Int32} (hk : kp ≤ 41) : Met l y_M_record (Cond.code y_M_record b_M_record 4 (some .int) :: gw) (rmn 1) (va_Pc [.ref (bd 0), .int x, .int y] (St D cs A (mW cs bd td kp nx wh of cu T Rc Sz Nm By R))) (vp_Si (fun r => r = recM of Rc Sz Nm kp x y)) 0 0 (fun _ => False) := by
  refine x_start (by decide) (Nat.le_of_ble_eq_true rfl) ?_
  intro p e s m below meth c hB hr hlk hin hP hD ls hl
  have hx := hB.1
  have hb := hB.2.1
  have hown := hB.2.2.2.1
  have hts := hB.2.2.2.2.1
  have hK := hB.2.2.2.2.2.1
  have hl : lv_has ls 4 [(0, .ref (bd 0)), (1, .int x), (2, .int y)] := hl
  have hr0 := hr
  refine lv_aload_n hx hb d_M_record_0 rfl (lv_at hl 0 rfl) ?_
  refine lv_iload_n hx hb d_M_record_1 rfl (lv_at hl 1 rfl) ?_
  refine x_cSi (As := [.int x]) (rest := []) (n := 1) hB (c_M_placeOfA l hk) gi_M_65 (by decide +kernel) rfl rfl ⟨Nat.le_of_ble_eq_true rfl, Nat.le_of_ble_eq_true rfl⟩ hP hD 0 rfl rfl hl.1 rfl (Nat.le_of_ble_eq_true rfl) d_M_record_2 ⟨Nat.le_of_ble_eq_true rfl, Nat.le_of_ble_eq_true rfl⟩ (fun r hr => ?_)
  cases hf : fdm of Rc kp x with
  | none =>
    rw [hf] at hr; subst hr
    refine tp_i (y := -1) rfl ?_
    refine lv_istore_n (lv' := [(3, .int (-1)), (0, .ref (bd 0)), (1, .int x), (2, .int y)]) hx hb d_M_record_5 rfl hl (by decide) rfl (fun ls hl => ?_)
    refine lv_iload_n hx hb d_M_record_6 rfl (lv_at hl 0 rfl) ?_
    refine lv_if_ge (tgt := 14) hx hb d_M_record_7 (by decide) (fun hc7 => (absurd hc7 (by decide))) (fun hc7 => ?_)
    refine lv_iconst (v := (-1)) hx hb d_M_record_10 (by decide) ?_
    refine lv_goto (tgt := 42) hx hb d_M_record_11 (by decide) ?_
    exact r_iS hB hr0 hlk ((recM_n hf).symm) d_M_record_42
  | some k =>
    rw [hf] at hr; subst hr
    have hkk := fdm_lt hf
    refine tp_i (y := nI k) rfl ?_
    refine lv_istore_n (lv' := [(3, .int (nI k)), (0, .ref (bd 0)), (1, .int x), (2, .int y)]) hx hb d_M_record_5 rfl hl (by decide) rfl (fun ls hl => ?_)
    refine lv_iload_n hx hb d_M_record_6 rfl (lv_at hl 0 rfl) ?_
    refine n_if_ge hx hb (by omega) (tgt := 14) d_M_record_7 (by decide) ?_
    refine lv_iload_n hx hb d_M_record_14 rfl (lv_at hl 3 rfl) ?_
    refine lv_if_ne (tgt := 27) hx hb d_M_record_15 (by decide) (fun hc15 => ?_) (fun hc15 => ?_)
    · skip
      refine lv_iload_n hx hb d_M_record_27 rfl (lv_at hl 3 rfl) ?_
      refine lv_iconst (v := 1) hx hb d_M_record_28 (by decide) ?_
      refine lv_icmp_ne (tgt := 41) hx hb d_M_record_29 (by decide) (fun hc29 => ?_) (fun hc29 => ?_)
      · skip
        refine lv_iconst (v := (-1)) hx hb d_M_record_41 (by decide) ?_
        exact r_iS hB hr0 hlk (by rw [recM_s hf, if_neg hc15, if_neg hc29]) d_M_record_42
      · skip
        refine lv_aload_n hx hb d_M_record_32 rfl (lv_at hl 1 rfl) ?_
        refine gf_M_20 (v := .ref (bd 4)) hB hP 0 rfl rfl d_M_record_33 ?_
        refine lv_iload_n hx hb d_M_record_36 rfl (lv_at hl 0 rfl) ?_
        refine n_iald hx hb hK hP 4 3 rfl rfl (by omega) (by decide) d_M_record_37 ?_
        refine lv_goto (tgt := 42) hx hb d_M_record_38 (by decide) ?_
        exact r_iS hB hr0 hlk (by rw [recM_s hf, if_neg hc15, if_pos hc29]) d_M_record_42
    · skip
      refine lv_aload_n hx hb d_M_record_18 rfl (lv_at hl 1 rfl) ?_
      refine gf_M_17 (v := .ref (bd 3)) hB hP 0 rfl rfl d_M_record_19 ?_
      refine lv_iload_n hx hb d_M_record_22 rfl (lv_at hl 0 rfl) ?_
      refine n_iald hx hb hK hP 3 3 rfl rfl (by omega) (by decide) d_M_record_23 ?_
      refine lv_goto (tgt := 42) hx hb d_M_record_24 (by decide) ?_
      exact r_iS hB hr0 hlk (by rw [recM_s hf, if_pos hc15]) d_M_record_42
set_option maxHeartbeats 4000000 in
set_option maxRecDepth 100000 in
/-- eight bytes of the x-th record -/
theorem c_M_bytes (l : Launch) {D : va_G} {A : Nat → Prop} {cs : Nat → ClassId} {bd : Nat → Nat} {td kp : Nat} {nx wh of cu : Int32} {T Rc Sz Nm By : Nat → Int32} {R : va_W} {sN : Nat → Nat} {x y : Int32} (hk : kp ≤ 41) (hs : ∀ k, sN k ≤ 100) (hz : ∀ k, k < kp → Sz k = nI (sN k)) : Met l y_M_bytes (Cond.code y_M_bytes b_M_bytes 7 (some .long) :: gw) (rmn 1) (va_Pc [.ref (bd 0), .int x, .int y] (St D cs A (mW cs bd td kp nx wh of cu T Rc Sz Nm By R))) (vp_Sl (fun r => r = bytM of Rc Sz By sN kp x y)) 0 0 (fun _ => False) := by
  refine x_start (by decide) (Nat.le_of_ble_eq_true rfl) ?_
  intro p e s m below meth c hB hr hlk hin hP hD ls hl
  have hx := hB.1
  have hb := hB.2.1
  have hown := hB.2.2.2.1
  have hts := hB.2.2.2.2.1
  have hK := hB.2.2.2.2.2.1
  have hl : lv_has ls 7 [(0, .ref (bd 0)), (1, .int x), (2, .int y)] := hl
  have hr0 := hr
  refine lv_aload_n hx hb d_M_bytes_0 rfl (lv_at hl 0 rfl) ?_
  refine lv_iload_n hx hb d_M_bytes_1 rfl (lv_at hl 1 rfl) ?_
  refine x_cSi (As := [.int x]) (rest := []) (n := 1) hB (c_M_placeOfA l hk) gi_M_65 (by decide +kernel) rfl rfl ⟨Nat.le_of_ble_eq_true rfl, Nat.le_of_ble_eq_true rfl⟩ hP hD 0 rfl rfl hl.1 rfl (Nat.le_of_ble_eq_true rfl) d_M_bytes_2 ⟨Nat.le_of_ble_eq_true rfl, Nat.le_of_ble_eq_true rfl⟩ (fun r hr => ?_)
  cases hf : fdm of Rc kp x with
  | none =>
    rw [hf] at hr; subst hr
    refine tp_i (y := -1) rfl ?_
    refine lv_istore_n (lv' := [(3, .int (-1)), (0, .ref (bd 0)), (1, .int x), (2, .int y)]) hx hb d_M_bytes_5 rfl hl (by decide) rfl (fun ls hl => ?_)
    refine lv_iload_n hx hb d_M_bytes_6 rfl (lv_at hl 0 rfl) ?_
    refine lv_if_lt (tgt := 14) hx hb d_M_bytes_7 (by decide) (fun hc7 => ?_) (fun hc7 => (absurd (show (-1 : Int32) < 0 by decide) hc7))
    refine lv_ldc2 (v := (-1)) hx hb hown (hts _ cl_M_68) d_M_bytes_14 ?_
    exact r_lS hB hr0 hlk ((bytM_n hf).symm) d_M_bytes_17
  | some k =>
    rw [hf] at hr; subst hr
    have hkk := fdm_lt hf
    refine tp_i (y := nI k) rfl ?_
    refine lv_istore_n (lv' := [(3, .int (nI k)), (0, .ref (bd 0)), (1, .int x), (2, .int y)]) hx hb d_M_bytes_5 rfl hl (by decide) rfl (fun ls hl => ?_)
    refine lv_iload_n hx hb d_M_bytes_6 rfl (lv_at hl 0 rfl) ?_
    refine n_if_lt hx hb (by omega) (tgt := 14) d_M_bytes_7 (by decide) ?_
    refine lv_iload_n hx hb d_M_bytes_10 rfl (lv_at hl 3 rfl) ?_
    refine lv_if_ge (tgt := 18) hx hb d_M_bytes_11 (by decide) (fun hc11 => ?_) (fun hc11 => ?_)
    · skip
      obtain ⟨j, hj, hy⟩ := nI_of (x := y) (Int32.not_lt.mpr hc11)
      rw [hy] at hl
      refine lv_lconst (v := 0) hx hb d_M_bytes_18 (by decide) ?_
      refine lv_lstore (lv' := [(4, .long 0), (3, .int (nI k)), (0, .ref (bd 0)), (1, .int x), (2, .int (nI j))]) hx hb d_M_bytes_19 hl (by decide) rfl (fun ls hl => ?_)
      refine lv_iconst (v := nI 0) hx hb d_M_bytes_21 (by decide) ?_
      refine lv_istore (lv' := [(6, .int (nI 0)), (4, .long 0), (3, .int (nI k)), (0, .ref (bd 0)), (1, .int x), (2, .int (nI j))]) hx hb d_M_bytes_22 hl (by decide) rfl (fun ls hl => ?_)
      have hsk := hs k
      have loop : ∀ (n : Nat) (b : Nat), (b ≤ 8) → (8 + 1 ≤ b + n) → ∀ ls : Array Slot, lv_has ls 7 [(0, .ref (bd 0)), (2, .int (nI j)), (3, .int (nI k)), (4, .long (bvl (mby Sz By sN k j) b)), (6, .int (nI b))] → W p l e (rmn 1) s m ([.ref (bd 0), .int x, .int y] : List Value).toArray below meth c s.heap [] 0 0 (MQ below (vp_Sl (fun r => r = bytM of Rc Sz By sN kp x y)) ([.ref (bd 0), .int x, .int y] : List Value).toArray s 0 0 (fun _ => False)) (F0 m 24 ls []) := by
        intro n
        induction n with
        | zero => intro b hb8 hm; exfalso; omega
        | succ n ih =>
          intro b hb8 hm ls hl
          refine lv_iload hx hb d_M_bytes_24 (lv_at hl 4 rfl) ?_
          refine lv_bipush (v := nI 8) hx hb d_M_bytes_26 (by decide) ?_
          refine n_icmp_ge hx hb (by omega) (by omega) (tgt := 87) d_M_bytes_28 (by decide) (fun hc28 => ?_) (fun hc28 => ?_)
          · skip
            refine lv_lload hx hb d_M_bytes_87 (lv_at hl 3 rfl) ?_
            exact r_lS hB hr0 hlk (by rw [bytM_s hf, hy, if_neg (nI_pos hj), nI_clamp hj, show b = 8 by omega]) d_M_bytes_89
          · skip
            refine lv_lload hx hb d_M_bytes_31 (lv_at hl 3 rfl) ?_
            refine lv_bipush (v := nI 8) hx hb d_M_bytes_33 (by decide) ?_
            refine lv_lshl (v := (bvl (mby Sz By sN k j) b) <<< ((nI 8).toInt64 &&& 63)) hx hb d_M_bytes_35 rfl ?_
            refine lv_iload_n hx hb d_M_bytes_36 rfl (lv_at hl 1 rfl) ?_
            refine lv_aload_n hx hb d_M_bytes_37 rfl (lv_at hl 0 rfl) ?_
            refine gf_M_17 (v := .ref (bd 3)) hB hP 0 rfl rfl d_M_bytes_38 ?_
            refine lv_iload_n hx hb d_M_bytes_41 rfl (lv_at hl 2 rfl) ?_
            refine n_iald hx hb hK hP 3 3 rfl rfl (by omega) (by decide) d_M_bytes_42 ?_
            refine tp_i (y := nI (sN k)) (hz k hkk) ?_
            refine n_icmp_ge hx hb (by omega) (by omega) (tgt := 76) d_M_bytes_43 (by decide) (fun hc43 => ?_) (fun hc43 => ?_)
            · skip
              have hd : mby Sz By sN k j b = 0 := by unfold mby; rw [if_neg (by omega)]
              refine lv_iconst (v := nI 0) hx hb d_M_bytes_76 (by decide) ?_
              refine lv_i2l (v := (nI 0).toInt64) hx hb d_M_bytes_77 rfl ?_
              refine lv_lor hx hb d_M_bytes_78 ?_
              refine tp_l (y := (bvl (mby Sz By sN k j) (b + 1))) (by show _ = (bvl (mby Sz By sN k j) b) <<< ((nI 8).toInt64 &&& 63) ||| (mby Sz By sN k j b).toInt64; rw [hd] <;> rfl) ?_
              refine lv_lstore (lv' := [(4, .long (bvl (mby Sz By sN k j) (b + 1))), (0, .ref (bd 0)), (2, .int (nI j)), (3, .int (nI k)), (6, .int (nI b))]) hx hb d_M_bytes_79 hl (by decide) rfl (fun ls hl => ?_)
              refine n_inc (d := 1) (k := 4) (lv' := [(6, .int (nI (b + 1))), (4, .long (bvl (mby Sz By sN k j) (b + 1))), (0, .ref (bd 0)), (2, .int (nI j)), (3, .int (nI k))]) hx hb d_M_bytes_81 (by decide) hl rfl (by decide) rfl (fun ls hl => ?_)
              refine lv_goto (tgt := 24) hx hb d_M_bytes_84 (by decide) ?_
              exact ih (b + 1) (by omega) (by omega) ls (lv_sub hl [2, 3, 4, 1, 0] rfl)
            · skip
              refine lv_iload hx hb d_M_bytes_46 (lv_at hl 4 rfl) ?_
              refine lv_aload_n hx hb d_M_bytes_48 rfl (lv_at hl 0 rfl) ?_
              refine gf_M_17 (v := .ref (bd 3)) hB hP 0 rfl rfl d_M_bytes_49 ?_
              refine lv_iload_n hx hb d_M_bytes_52 rfl (lv_at hl 2 rfl) ?_
              refine n_iald hx hb hK hP 3 3 rfl rfl (by omega) (by decide) d_M_bytes_53 ?_
              refine tp_i (y := nI (sN k)) (hz k hkk) ?_
              refine lv_iload_n hx hb d_M_bytes_54 rfl (lv_at hl 1 rfl) ?_
              refine n_sub hx hb (by omega) d_M_bytes_55 ?_
              refine n_icmp_ge hx hb (by omega) (by omega) (tgt := 76) d_M_bytes_56 (by decide) (fun hc56 => ?_) (fun hc56 => ?_)
              · skip
                have hd : mby Sz By sN k j b = 0 := by unfold mby; rw [if_neg (by omega)]
                refine lv_iconst (v := nI 0) hx hb d_M_bytes_76 (by decide) ?_
                refine lv_i2l (v := (nI 0).toInt64) hx hb d_M_bytes_77 rfl ?_
                refine lv_lor hx hb d_M_bytes_78 ?_
                refine tp_l (y := (bvl (mby Sz By sN k j) (b + 1))) (by show _ = (bvl (mby Sz By sN k j) b) <<< ((nI 8).toInt64 &&& 63) ||| (mby Sz By sN k j b).toInt64; rw [hd] <;> rfl) ?_
                refine lv_lstore (lv' := [(4, .long (bvl (mby Sz By sN k j) (b + 1))), (0, .ref (bd 0)), (2, .int (nI j)), (3, .int (nI k)), (6, .int (nI b))]) hx hb d_M_bytes_79 hl (by decide) rfl (fun ls hl => ?_)
                refine n_inc (d := 1) (k := 4) (lv' := [(6, .int (nI (b + 1))), (4, .long (bvl (mby Sz By sN k j) (b + 1))), (0, .ref (bd 0)), (2, .int (nI j)), (3, .int (nI k))]) hx hb d_M_bytes_81 (by decide) hl rfl (by decide) rfl (fun ls hl => ?_)
                refine lv_goto (tgt := 24) hx hb d_M_bytes_84 (by decide) ?_
                exact ih (b + 1) (by omega) (by omega) ls (lv_sub hl [2, 3, 4, 1, 0] rfl)
              · skip
                have hd : mby Sz By sN k j b = By (100 * k + j + b) := by unfold mby; rw [if_pos (by omega)]
                refine lv_aload_n hx hb d_M_bytes_59 rfl (lv_at hl 0 rfl) ?_
                refine gf_M_23 (v := .ref (bd 5)) hB hP 0 rfl rfl d_M_bytes_60 ?_
                refine lv_bipush (v := nI 100) hx hb d_M_bytes_63 (by decide) ?_
                refine lv_iload_n hx hb d_M_bytes_65 rfl (lv_at hl 2 rfl) ?_
                refine n_mul hx hb d_M_bytes_66 ?_
                refine lv_iload_n hx hb d_M_bytes_67 rfl (lv_at hl 1 rfl) ?_
                refine n_add hx hb d_M_bytes_68 ?_
                refine lv_iload hx hb d_M_bytes_69 (lv_at hl 4 rfl) ?_
                refine n_add hx hb d_M_bytes_71 ?_
                refine n_iald hx hb hK hP 5 3 rfl rfl (by omega) (by decide) d_M_bytes_72 ?_
                refine lv_goto (tgt := 77) hx hb d_M_bytes_73 (by decide) ?_
                refine lv_i2l (v := (By (((100 * k) + j) + b)).toInt64) hx hb d_M_bytes_77 rfl ?_
                refine lv_lor hx hb d_M_bytes_78 ?_
                refine tp_l (y := (bvl (mby Sz By sN k j) (b + 1))) (by show _ = (bvl (mby Sz By sN k j) b) <<< ((nI 8).toInt64 &&& 63) ||| (mby Sz By sN k j b).toInt64; rw [hd] <;> rfl) ?_
                refine lv_lstore (lv' := [(4, .long (bvl (mby Sz By sN k j) (b + 1))), (0, .ref (bd 0)), (2, .int (nI j)), (3, .int (nI k)), (6, .int (nI b))]) hx hb d_M_bytes_79 hl (by decide) rfl (fun ls hl => ?_)
                refine n_inc (d := 1) (k := 4) (lv' := [(6, .int (nI (b + 1))), (4, .long (bvl (mby Sz By sN k j) (b + 1))), (0, .ref (bd 0)), (2, .int (nI j)), (3, .int (nI k))]) hx hb d_M_bytes_81 (by decide) hl rfl (by decide) rfl (fun ls hl => ?_)
                refine lv_goto (tgt := 24) hx hb d_M_bytes_84 (by decide) ?_
                exact ih (b + 1) (by omega) (by omega) ls (lv_sub hl [2, 3, 4, 1, 0] rfl)
      exact loop 9 0 (by omega) (by omega) ls (lv_sub hl [3, 5, 2, 1, 0] rfl)
    · skip
      refine lv_ldc2 (v := (-1)) hx hb hown (hts _ cl_M_68) d_M_bytes_14 ?_
      exact r_lS hB hr0 hlk (by rw [bytM_s hf, if_pos (Int32.not_le.mp hc11)]) d_M_bytes_17
set_option maxHeartbeats 4000000 in
set_option maxRecDepth 100000 in
/-- the five counts -/
theorem c_M_count (l : Launch) {D : va_G} {A : Nat → Prop} {cs : Nat → ClassId} {bd : Nat → Nat} {td kp : Nat} {nx wh of cu : Int32} {T Rc Sz Nm By : Nat → Int32} {R : va_W} {sN : Nat → Nat} {x : Int32} (hk : kp ≤ 41) (hs : ∀ k, sN k ≤ 100) (hz : ∀ k, k < kp → Sz k = nI (sN k) ∧ (Rc k = 0 → sN k = 0)) : Met l y_M_count (Cond.code y_M_count b_M_count 2 (some .int) :: gw) (rmn 2) (va_Pc [.ref (bd 0), .int x] (St D cs A (mW cs bd td kp nx wh of cu T Rc Sz Nm By R))) (vp_Si (fun r => r = cntV x (nI td) (if of = 0 then nI (mn (qR Rc) 0 kp) else nI 0) (if of = 0 then nI (us sN 0 kp) else nI 0) wh (if of = 0 then nI 1 else nI 0))) 0 0 (fun _ => False) := by
  refine x_start (by decide) (Nat.le_of_ble_eq_true rfl) ?_
  intro p e s m below meth c hB hr hlk hin hP hD ls hl
  have hx := hB.1
  have hb := hB.2.1
  have hown := hB.2.2.2.1
  have hts := hB.2.2.2.2.1
  have hK := hB.2.2.2.2.2.1
  have hl : lv_has ls 2 [(0, .ref (bd 0)), (1, .int x)] := hl
  have hr0 := hr
  refine lv_iload_n hx hb d_M_count_0 rfl (lv_at hl 1 rfl) ?_
  by_cases hq0 : x = 0
  · skip
    refine lv_tableIn (off := 35) (tgt := 36) hx hb d_M_count_1 (by rw [hq0]; decide) (by rw [hq0]; decide) (by rw [hq0]; rfl) (by decide) ?_
    refine lv_aload_n hx hb d_M_count_36 rfl (lv_at hl 0 rfl) ?_
    refine gf_M_30 (v := .int (nI td)) hB hP 0 rfl rfl d_M_count_37 ?_
    exact r_iS hB hr0 hlk (cnt_0 hq0).symm d_M_count_40
  · skip
    by_cases hq1 : x = 1
    · skip
      refine lv_tableIn (off := 40) (tgt := 41) hx hb d_M_count_1 (by rw [hq1]; decide) (by rw [hq1]; decide) (by rw [hq1]; rfl) (by decide) ?_
      refine lv_aload_n hx hb d_M_count_41 rfl (lv_at hl 0 rfl) ?_
      refine gf_M_40 (v := .int of) hB hP 0 rfl rfl d_M_count_42 ?_
      refine lv_if_eq (tgt := 52) hx hb d_M_count_45 (by decide) (fun hc45 => ?_) (fun hc45 => ?_)
      · skip
        refine lv_aload_n hx hb d_M_count_52 rfl (lv_at hl 0 rfl) ?_
        refine x_cSi (As := []) (rest := []) (n := 0) hB (c_M_records l hk) gi_M_58 (by decide +kernel) rfl rfl ⟨Nat.le_of_ble_eq_true rfl, Nat.le_of_ble_eq_true rfl⟩ hP hD 0 rfl rfl hl.1 rfl (Nat.le_of_ble_eq_true rfl) d_M_count_53 ⟨Nat.le_of_ble_eq_true rfl, Nat.le_of_ble_eq_true rfl⟩ (fun r hr => ?_)
        subst hr
        exact r_iS hB hr0 hlk (by rw [cnt_1 hq1, if_pos hc45]) d_M_count_56
      · skip
        refine lv_iconst (v := nI 0) hx hb d_M_count_48 (by decide) ?_
        refine lv_goto (tgt := 56) hx hb d_M_count_49 (by decide) ?_
        exact r_iS hB hr0 hlk (by rw [cnt_1 hq1, if_neg hc45]) d_M_count_56
    · skip
      by_cases hq2 : x = 2
      · skip
        refine lv_tableIn (off := 56) (tgt := 57) hx hb d_M_count_1 (by rw [hq2]; decide) (by rw [hq2]; decide) (by rw [hq2]; rfl) (by decide) ?_
        refine lv_aload_n hx hb d_M_count_57 rfl (lv_at hl 0 rfl) ?_
        refine gf_M_40 (v := .int of) hB hP 0 rfl rfl d_M_count_58 ?_
        refine lv_if_eq (tgt := 68) hx hb d_M_count_61 (by decide) (fun hc61 => ?_) (fun hc61 => ?_)
        · skip
          refine lv_aload_n hx hb d_M_count_68 rfl (lv_at hl 0 rfl) ?_
          refine x_cSi (As := []) (rest := []) (n := 0) hB (c_M_used l hk hs hz) gi_M_44 (by decide +kernel) rfl rfl ⟨Nat.le_of_ble_eq_true rfl, Nat.le_of_ble_eq_true rfl⟩ hP hD 0 rfl rfl hl.1 rfl (Nat.le_of_ble_eq_true rfl) d_M_count_69 ⟨Nat.le_of_ble_eq_true rfl, Nat.le_of_ble_eq_true rfl⟩ (fun r hr => ?_)
          subst hr
          exact r_iS hB hr0 hlk (by rw [cnt_2 hq2, if_pos hc61]) d_M_count_72
        · skip
          refine lv_iconst (v := nI 0) hx hb d_M_count_64 (by decide) ?_
          refine lv_goto (tgt := 72) hx hb d_M_count_65 (by decide) ?_
          exact r_iS hB hr0 hlk (by rw [cnt_2 hq2, if_neg hc61]) d_M_count_72
      · skip
        by_cases hq3 : x = 3
        · skip
          refine lv_tableIn (off := 72) (tgt := 73) hx hb d_M_count_1 (by rw [hq3]; decide) (by rw [hq3]; decide) (by rw [hq3]; rfl) (by decide) ?_
          refine lv_aload_n hx hb d_M_count_73 rfl (lv_at hl 0 rfl) ?_
          refine gf_M_55 (v := .int wh) hB hP 0 rfl rfl d_M_count_74 ?_
          exact r_iS hB hr0 hlk (cnt_3 hq3).symm d_M_count_77
        · skip
          by_cases hq4 : x = 4
          · skip
            refine lv_tableIn (off := 77) (tgt := 78) hx hb d_M_count_1 (by rw [hq4]; decide) (by rw [hq4]; decide) (by rw [hq4]; rfl) (by decide) ?_
            refine lv_aload_n hx hb d_M_count_78 rfl (lv_at hl 0 rfl) ?_
            refine gf_M_40 (v := .int of) hB hP 0 rfl rfl d_M_count_79 ?_
            refine lv_if_eq (tgt := 89) hx hb d_M_count_82 (by decide) (fun hc82 => ?_) (fun hc82 => ?_)
            · skip
              refine lv_iconst (v := nI 1) hx hb d_M_count_89 (by decide) ?_
              exact r_iS hB hr0 hlk (by rw [cnt_4 hq4, if_pos hc82]) d_M_count_90
            · skip
              refine lv_iconst (v := nI 0) hx hb d_M_count_85 (by decide) ?_
              refine lv_goto (tgt := 90) hx hb d_M_count_86 (by decide) ?_
              exact r_iS hB hr0 hlk (by rw [cnt_4 hq4, if_neg hc82]) d_M_count_90
          · skip
            refine lv_tableOut (tgt := 91) hx hb d_M_count_1 (by have := lv_neT hq0 (a := 0) rfl; have := lv_neT hq1 (a := 1) rfl; have := lv_neT hq2 (a := 2) rfl; have := lv_neT hq3 (a := 3) rfl; have := lv_neT hq4 (a := 4) rfl; omega) (by decide) ?_
            refine lv_iconst (v := (-1)) hx hb d_M_count_91 (by decide) ?_
            exact r_iS hB hr0 hlk (cnt_d hq0 hq1 hq2 hq3 hq4).symm d_M_count_92
end
section
/-! the model: write, move, drop -/
set_option maxHeartbeats 4000000 in
set_option maxRecDepth 100000 in
/-- write -/
theorem c_M_writeN (l : Launch) {D : va_G} {A : Nat → Prop} {cs : Nat → ClassId} {bd : Nat → Nat} {td kp : Nat} {nx wh of cu : Int32} {T Rc Sz Nm By : Nat → Int32} {R : va_W} {sN : Nat → Nat} {q : Nat} (hk : kp ≤ 41) (ht : td ≤ 100) (hs : ∀ k, sN k ≤ 100) (hz : ∀ k, k < kp → Sz k = nI (sN k) ∧ (Rc k = 0 → sN k = 0)) (h : ¬ (of = 0 ∧ us sN 0 kp + nd td ≤ 40)) : Met l y_M_write (Cond.code y_M_write b_M_write 3 (some .int) :: gw) (rmn 2) (va_Pc [.ref (bd 0)] (St D cs A (mW cs bd td kp nx wh of cu T Rc Sz Nm By R))) (QI D A (fun r z => r = -1 ∧ z = mW cs bd td kp nx wh of cu T Rc Sz Nm By R)) 0 0 A := by
  refine x_start (by decide) (Nat.le_of_ble_eq_true rfl) ?_
  intro p e s m below meth c hB hr hlk hin hP hD ls hl
  have hx := hB.1
  have hb := hB.2.1
  have hown := hB.2.2.2.1
  have hts := hB.2.2.2.2.1
  have hK := hB.2.2.2.2.2.1
  have hS : va_S A s.heap s.heap [] := va_S.rf
  have hl : lv_has ls 3 [(0, .ref (bd 0))] := hl
  have hr0 := hr
  have hU := us_le sN 0 kp (fun j _ => hs _)
  have hG := us_ge sN 0 kp
  have hnd := nd_le ht
  refine lv_aload_n hx hb d_M_write_0 rfl (lv_at hl 0 rfl) ?_
  refine gf_M_40 (v := .int of) hB hP 0 rfl rfl d_M_write_1 ?_
  refine lv_if_ne (tgt := 24) hx hb d_M_write_4 (by decide) (fun hc4 => ?_) (fun hc4 => ?_)
  · skip
    refine lv_iconst (v := (-1)) hx hb d_M_write_24 (by decide) ?_
    exact r_iQ hB hr0 hlk hP hD hS ⟨rfl, rfl⟩ d_M_write_25
  · skip
    refine lv_aload_n hx hb d_M_write_7 rfl (lv_at hl 0 rfl) ?_
    refine x_cSi (As := []) (rest := []) (n := 0) hB (c_M_used l hk hs hz) gi_M_44 (by decide +kernel) rfl rfl ⟨Nat.le_of_ble_eq_true rfl, Nat.le_of_ble_eq_true rfl⟩ hP hD 0 rfl rfl hl.1 rfl (Nat.le_of_ble_eq_true rfl) d_M_write_8 ⟨Nat.le_of_ble_eq_true rfl, Nat.le_of_ble_eq_true rfl⟩ (fun r hr => ?_)
    subst hr
    refine lv_aload_n hx hb d_M_write_11 rfl (lv_at hl 0 rfl) ?_
    refine gf_M_30 (v := .int (nI td)) hB hP 0 rfl rfl d_M_write_12 ?_
    refine x_cT (As := [.int (nI td)]) (rest := [.int (nI (us sN 0 kp))]) (n := 1) hB (c_M_sectorsOf l (n := td) (by omega)) gi_M_36 (by decide +kernel) rfl rfl ⟨Nat.le_of_ble_eq_true rfl, Nat.le_of_ble_eq_true rfl⟩ hP hD hl.1 rfl (Nat.le_of_ble_eq_true rfl) d_M_write_15 ⟨Nat.le_of_ble_eq_true rfl, Nat.le_of_ble_eq_true rfl⟩ (fun r hr => ?_)
    subst hr
    refine n_add hx hb d_M_write_18 ?_
    refine lv_bipush (v := nI 40) hx hb d_M_write_19 (by decide) ?_
    refine n_icmp_le hx hb (by omega) (by omega) (tgt := 26) d_M_write_21 (by decide) (fun hc21 => (absurd ⟨hc4, hc21⟩ h)) (fun hc21 => ?_)
    refine lv_iconst (v := (-1)) hx hb d_M_write_24 (by decide) ?_
    exact r_iQ hB hr0 hlk hP hD hS ⟨rfl, rfl⟩ d_M_write_25
set_option maxHeartbeats 4000000 in
set_option maxRecDepth 100000 in
/-- write -/
theorem c_M_writeC (l : Launch) {D : va_G} {A : Nat → Prop} {cs : Nat → ClassId} {bd : Nat → Nat} {td kp : Nat} {nx wh of cu : Int32} {T Rc Sz Nm By : Nat → Int32} {R : va_W} {sN : Nat → Nat} {q : Nat} (hk : kp ≤ 41) (ht : td ≤ 100) (hs : ∀ k, sN k ≤ 100) (hz : ∀ k, k < kp → Sz k = nI (sN k) ∧ (Rc k = 0 → sN k = 0)) (hq : q ≤ 8) (h : of = 0 ∧ us sN 0 kp + nd td ≤ 40) : Met l y_M_write (Cond.code y_M_write b_M_write 3 (some .int) :: gw) (rmn 2) (va_Pc [.ref (bd 0)] (St D cs A (mW cs bd td kp nx wh of (nI q) T Rc Sz Nm By R))) (QI D A (fun r z => r = -2 ∧ z = mW cs bd 0 kp nx wh (nI 1) (-1) T Rc Sz Nm By R)) 0 0 A := by
  refine x_start (by decide) (Nat.le_of_ble_eq_true rfl) ?_
  intro p e s m below meth c hB hr hlk hin hP hD ls hl
  have hx := hB.1
  have hb := hB.2.1
  have hown := hB.2.2.2.1
  have hts := hB.2.2.2.2.1
  have hK := hB.2.2.2.2.2.1
  have hS : va_S A s.heap s.heap [] := va_S.rf
  have hl : lv_has ls 3 [(0, .ref (bd 0))] := hl
  have hr0 := hr
  have hU := us_le sN 0 kp (fun j _ => hs _)
  have hG := us_ge sN 0 kp
  have hnd := nd_le ht
  refine lv_aload_n hx hb d_M_write_0 rfl (lv_at hl 0 rfl) ?_
  refine gf_M_40 (v := .int of) hB hP 0 rfl rfl d_M_write_1 ?_
  refine lv_if_ne (tgt := 24) hx hb d_M_write_4 (by decide) (fun hc4 => (absurd h.1 hc4)) (fun hc4 => ?_)
  refine lv_aload_n hx hb d_M_write_7 rfl (lv_at hl 0 rfl) ?_
  refine x_cSi (As := []) (rest := []) (n := 0) hB (c_M_used l hk hs hz) gi_M_44 (by decide +kernel) rfl rfl ⟨Nat.le_of_ble_eq_true rfl, Nat.le_of_ble_eq_true rfl⟩ hP hD 0 rfl rfl hl.1 rfl (Nat.le_of_ble_eq_true rfl) d_M_write_8 ⟨Nat.le_of_ble_eq_true rfl, Nat.le_of_ble_eq_true rfl⟩ (fun r hr => ?_)
  subst hr
  refine lv_aload_n hx hb d_M_write_11 rfl (lv_at hl 0 rfl) ?_
  refine gf_M_30 (v := .int (nI td)) hB hP 0 rfl rfl d_M_write_12 ?_
  refine x_cT (As := [.int (nI td)]) (rest := [.int (nI (us sN 0 kp))]) (n := 1) hB (c_M_sectorsOf l (n := td) (by omega)) gi_M_36 (by decide +kernel) rfl rfl ⟨Nat.le_of_ble_eq_true rfl, Nat.le_of_ble_eq_true rfl⟩ hP hD hl.1 rfl (Nat.le_of_ble_eq_true rfl) d_M_write_15 ⟨Nat.le_of_ble_eq_true rfl, Nat.le_of_ble_eq_true rfl⟩ (fun r hr => ?_)
  subst hr
  refine n_add hx hb d_M_write_18 ?_
  refine lv_bipush (v := nI 40) hx hb d_M_write_19 (by decide) ?_
  refine n_icmp_le hx hb (by omega) (by omega) (tgt := 26) d_M_write_21 (by decide) (fun hc21 => ?_) (fun hc21 => (absurd h.2 (by omega)))
  refine lv_aload_n hx hb d_M_write_26 rfl (lv_at hl 0 rfl) ?_
  refine gf_M_30 (v := .int (nI td)) hB hP 0 rfl rfl d_M_write_27 ?_
  refine lv_istore_n (lv' := [(1, .int (nI td)), (0, .ref (bd 0))]) hx hb d_M_write_30 rfl hl (by decide) rfl (fun ls hl => ?_)
  refine lv_aload_n hx hb d_M_write_31 rfl (lv_at hl 1 rfl) ?_
  refine lv_iconst (v := nI 0) hx hb d_M_write_32 (by decide) ?_
  refine pf_M_30 hB hP hD hS 0 rfl (Nat.le_of_ble_eq_true rfl) d_M_write_33 (fun H locs hP hD hS => ?_)
  have hP : va_P D classes (mW cs bd 0 kp nx wh of (nI q) T Rc Sz Nm By R) H := hP
  have hD : va_D A (mW cs bd 0 kp nx wh of (nI q) T Rc Sz Nm By R) := hD
  refine lv_aload_n hx hb d_M_write_36 rfl (lv_at hl 1 rfl) ?_
  refine x_cQi (As := []) (rest := []) (n := 0) hB (c_M_isCutC l (q := q) (cu := 0) hq) gi_M_48 (by decide +kernel) rfl rfl ⟨Nat.le_of_ble_eq_true rfl, Nat.le_of_ble_eq_true rfl⟩ hP hD hS 0 rfl rfl hl.1 rfl (Nat.le_of_ble_eq_true rfl) d_M_write_37 ⟨Nat.le_of_ble_eq_true rfl, Nat.le_of_ble_eq_true rfl⟩ (fun r w H locs hw hP hD hS => ?_)
  obtain ⟨rfl, rfl⟩ := hw
  refine tp_i (y := nI 1) rfl ?_
  refine n_if_eq hx hb (by omega) (tgt := 46) d_M_write_40 (by decide) (fun h => absurd h (by decide)) (fun _ => ?_)
  refine lv_bipush (v := (-2)) hx hb d_M_write_43 (by decide) ?_
  exact r_iQ hB hr0 hlk hP hD hS ⟨rfl, rfl⟩ d_M_write_45
set_option maxHeartbeats 4000000 in
set_option maxRecDepth 100000 in
/-- write -/
theorem c_M_write (l : Launch) {D : va_G} {A : Nat → Prop} {cs : Nat → ClassId} {bd : Nat → Nat} {td kp : Nat} {nx wh of cu : Int32} {T Rc Sz Nm By : Nat → Int32} {R : va_W} {sN : Nat → Nat} {q : Nat} (hk : kp ≤ 41) (ht : td ≤ 100) (hs : ∀ k, sN k ≤ 100) (hz : ∀ k, k < kp → Sz k = nI (sN k) ∧ (Rc k = 0 → sN k = 0)) (h : of = 0 ∧ us sN 0 kp + nd td ≤ 40) : Met l y_M_write (Cond.code y_M_write b_M_write 3 (some .int) :: gw) (rmn 2) (va_Pc [.ref (bd 0)] (St D cs A (mW cs bd td kp nx wh of (-1) T Rc Sz Nm By R))) (QI D A (fun r z => r = nx ∧ ∃ Y1 : Nat → Int32, z = mW cs bd 0 (kp + 1) (nx + 1) (wh + 1) of (-1) T (upd Rc kp (nI 1)) (upd Sz kp (nI td)) (upd Nm kp nx) Y1 R ∧ (∀ i, i < td → Y1 (100 * kp + i) = T i) ∧ ∀ q, (q < 100 * kp ∨ 100 * kp + 100 ≤ q) → Y1 q = By q)) 0 0 A := by
  refine x_start (by decide) (Nat.le_of_ble_eq_true rfl) ?_
  intro p e s m below meth c hB hr hlk hin hP hD ls hl
  have hx := hB.1
  have hb := hB.2.1
  have hown := hB.2.2.2.1
  have hts := hB.2.2.2.2.1
  have hK := hB.2.2.2.2.2.1
  have hS : va_S A s.heap s.heap [] := va_S.rf
  have hl : lv_has ls 3 [(0, .ref (bd 0))] := hl
  have hr0 := hr
  have hU := us_le sN 0 kp (fun j _ => hs _)
  have hG := us_ge sN 0 kp
  have hnd := nd_le ht
  refine lv_aload_n hx hb d_M_write_0 rfl (lv_at hl 0 rfl) ?_
  refine gf_M_40 (v := .int of) hB hP 0 rfl rfl d_M_write_1 ?_
  refine lv_if_ne (tgt := 24) hx hb d_M_write_4 (by decide) (fun hc4 => (absurd h.1 hc4)) (fun hc4 => ?_)
  refine lv_aload_n hx hb d_M_write_7 rfl (lv_at hl 0 rfl) ?_
  refine x_cSi (As := []) (rest := []) (n := 0) hB (c_M_used l hk hs hz) gi_M_44 (by decide +kernel) rfl rfl ⟨Nat.le_of_ble_eq_true rfl, Nat.le_of_ble_eq_true rfl⟩ hP hD 0 rfl rfl hl.1 rfl (Nat.le_of_ble_eq_true rfl) d_M_write_8 ⟨Nat.le_of_ble_eq_true rfl, Nat.le_of_ble_eq_true rfl⟩ (fun r hr => ?_)
  subst hr
  refine lv_aload_n hx hb d_M_write_11 rfl (lv_at hl 0 rfl) ?_
  refine gf_M_30 (v := .int (nI td)) hB hP 0 rfl rfl d_M_write_12 ?_
  refine x_cT (As := [.int (nI td)]) (rest := [.int (nI (us sN 0 kp))]) (n := 1) hB (c_M_sectorsOf l (n := td) (by omega)) gi_M_36 (by decide +kernel) rfl rfl ⟨Nat.le_of_ble_eq_true rfl, Nat.le_of_ble_eq_true rfl⟩ hP hD hl.1 rfl (Nat.le_of_ble_eq_true rfl) d_M_write_15 ⟨Nat.le_of_ble_eq_true rfl, Nat.le_of_ble_eq_true rfl⟩ (fun r hr => ?_)
  subst hr
  refine n_add hx hb d_M_write_18 ?_
  refine lv_bipush (v := nI 40) hx hb d_M_write_19 (by decide) ?_
  refine n_icmp_le hx hb (by omega) (by omega) (tgt := 26) d_M_write_21 (by decide) (fun hc21 => ?_) (fun hc21 => (absurd h.2 (by omega)))
  refine lv_aload_n hx hb d_M_write_26 rfl (lv_at hl 0 rfl) ?_
  refine gf_M_30 (v := .int (nI td)) hB hP 0 rfl rfl d_M_write_27 ?_
  refine lv_istore_n (lv' := [(1, .int (nI td)), (0, .ref (bd 0))]) hx hb d_M_write_30 rfl hl (by decide) rfl (fun ls hl => ?_)
  refine lv_aload_n hx hb d_M_write_31 rfl (lv_at hl 1 rfl) ?_
  refine lv_iconst (v := nI 0) hx hb d_M_write_32 (by decide) ?_
  refine pf_M_30 hB hP hD hS 0 rfl (Nat.le_of_ble_eq_true rfl) d_M_write_33 (fun H locs hP hD hS => ?_)
  have hP : va_P D classes (mW cs bd 0 kp nx wh of (-1) T Rc Sz Nm By R) H := hP
  have hD : va_D A (mW cs bd 0 kp nx wh of (-1) T Rc Sz Nm By R) := hD
  refine lv_aload_n hx hb d_M_write_36 rfl (lv_at hl 1 rfl) ?_
  refine x_cQi (As := []) (rest := []) (n := 0) hB (c_M_isCut l (cu := 0)) gi_M_48 (by decide +kernel) rfl rfl ⟨Nat.le_of_ble_eq_true rfl, Nat.le_of_ble_eq_true rfl⟩ hP hD hS 0 rfl rfl hl.1 rfl (Nat.le_of_ble_eq_true rfl) d_M_write_37 ⟨Nat.le_of_ble_eq_true rfl, Nat.le_of_ble_eq_true rfl⟩ (fun r w H locs hw hP hD hS => ?_)
  obtain ⟨rfl, rfl⟩ := hw
  refine tp_i (y := nI 0) rfl ?_
  refine n_if_eq hx hb (by omega) (tgt := 46) d_M_write_40 (by decide) (fun _ => ?_) (fun h => absurd h (by decide))
  refine lv_aload_n hx hb d_M_write_46 rfl (lv_at hl 1 rfl) ?_
  refine gf_M_13 (v := .ref (bd 2)) hB hP 0 rfl rfl d_M_write_47 ?_
  refine lv_aload_n hx hb d_M_write_50 rfl (lv_at hl 1 rfl) ?_
  refine gf_M_33 (v := .int (nI kp)) hB hP 0 rfl rfl d_M_write_51 ?_
  refine lv_iconst (v := nI 1) hx hb d_M_write_54 (by decide) ?_
  refine n_zast hx hb hK hP hD hS 2 1 rfl rfl (by decide) (by omega) (by decide) d_M_write_55 (fun H locs hP hD hS => ?_)
  have hP : va_P D classes (mW cs bd 0 kp nx wh of (-1) T (upd Rc kp (nI 1)) Sz Nm By R) H := hP
  have hD : va_D A (mW cs bd 0 kp nx wh of (-1) T (upd Rc kp (nI 1)) Sz Nm By R) := hD
  refine lv_aload_n hx hb d_M_write_56 rfl (lv_at hl 1 rfl) ?_
  refine gf_M_17 (v := .ref (bd 3)) hB hP 0 rfl rfl d_M_write_57 ?_
  refine lv_aload_n hx hb d_M_write_60 rfl (lv_at hl 1 rfl) ?_
  refine gf_M_33 (v := .int (nI kp)) hB hP 0 rfl rfl d_M_write_61 ?_
  refine lv_iload_n hx hb d_M_write_64 rfl (lv_at hl 0 rfl) ?_
  refine n_iast hx hb hK hP hD hS 3 3 rfl rfl (by omega) (by decide) d_M_write_65 (fun H locs hP hD hS => ?_)
  have hP : va_P D classes (mW cs bd 0 kp nx wh of (-1) T (upd Rc kp (nI 1)) (upd Sz kp (nI td)) Nm By R) H := hP
  have hD : va_D A (mW cs bd 0 kp nx wh of (-1) T (upd Rc kp (nI 1)) (upd Sz kp (nI td)) Nm By R) := hD
  refine lv_aload_n hx hb d_M_write_66 rfl (lv_at hl 1 rfl) ?_
  refine gf_M_20 (v := .ref (bd 4)) hB hP 0 rfl rfl d_M_write_67 ?_
  refine lv_aload_n hx hb d_M_write_70 rfl (lv_at hl 1 rfl) ?_
  refine gf_M_33 (v := .int (nI kp)) hB hP 0 rfl rfl d_M_write_71 ?_
  refine lv_aload_n hx hb d_M_write_74 rfl (lv_at hl 1 rfl) ?_
  refine gf_M_52 (v := .int nx) hB hP 0 rfl rfl d_M_write_75 ?_
  refine n_iast hx hb hK hP hD hS 4 3 rfl rfl (by omega) (by decide) d_M_write_78 (fun H locs hP hD hS => ?_)
  have hP : va_P D classes (mW cs bd 0 kp nx wh of (-1) T (upd Rc kp (nI 1)) (upd Sz kp (nI td)) (upd Nm kp nx) By R) H := hP
  have hD : va_D A (mW cs bd 0 kp nx wh of (-1) T (upd Rc kp (nI 1)) (upd Sz kp (nI td)) (upd Nm kp nx) By R) := hD
  refine lv_iconst (v := nI 0) hx hb d_M_write_79 (by decide) ?_
  refine lv_istore_n (lv' := [(2, .int (nI 0)), (1, .int (nI td)), (0, .ref (bd 0))]) hx hb d_M_write_80 rfl hl (by decide) rfl (fun ls hl => ?_)
  have loop : ∀ (n : Nat) (k : Nat) (y1 : Nat → Int32), (k ≤ td) → (∀ i, i < k → y1 (100 * kp + i) = T i) → (∀ q, (q < 100 * kp ∨ 100 * kp + 100 ≤ q) → y1 q = By q) → (td + 1 ≤ k + n) → ∀ (H : Heap) (locs : List Loc), va_P D classes (mW cs bd 0 kp nx wh of (-1) T (upd Rc kp (nI 1)) (upd Sz kp (nI td)) (upd Nm kp nx) y1 R) H → va_D A (mW cs bd 0 kp nx wh of (-1) T (upd Rc kp (nI 1)) (upd Sz kp (nI td)) (upd Nm kp nx) y1 R) → va_S A s.heap H locs → ∀ ls : Array Slot, lv_has ls 3 [(0, .ref (bd 0)), (1, .int (nI td)), (2, .int (nI k))] → W p l e (rmn 2) s m ([.ref (bd 0)] : List Value).toArray below meth c H locs 0 0 (MQ below (QI D A (fun r z => r = nx ∧ ∃ Y1 : Nat → Int32, z = mW cs bd 0 (kp + 1) (nx + 1) (wh + 1) of (-1) T (upd Rc kp (nI 1)) (upd Sz kp (nI td)) (upd Nm kp nx) Y1 R ∧ (∀ i, i < td → Y1 (100 * kp + i) = T i) ∧ ∀ q, (q < 100 * kp ∨ 100 * kp + 100 ≤ q) → Y1 q = By q)) ([.ref (bd 0)] : List Value).toArray s 0 0 A) (F0 m 81 ls []) := by
    intro n
    induction n with
    | zero => intro k y1 hk0 hy1 hy2 hm; exfalso; omega
    | succ n ih =>
      intro k y1 hk0 hy1 hy2 hm H locs hP hD hS ls hl
      refine lv_iload_n hx hb d_M_write_81 rfl (lv_at hl 2 rfl) ?_
      refine lv_iload_n hx hb d_M_write_82 rfl (lv_at hl 1 rfl) ?_
      refine n_icmp_ge hx hb (by omega) (by omega) (tgt := 112) d_M_write_83 (by decide) (fun hc83 => ?_) (fun hc83 => ?_)
      · skip
        refine lv_aload_n hx hb d_M_write_112 rfl (lv_at hl 0 rfl) ?_
        refine lv_aload_n hx hb d_M_write_113 rfl (lv_at hl 0 rfl) ?_
        refine gf_M_33 (v := .int (nI kp)) hB hP 0 rfl rfl d_M_write_114 ?_
        refine lv_iconst (v := nI 1) hx hb d_M_write_117 (by decide) ?_
        refine n_add hx hb d_M_write_118 ?_
        refine pf_M_33 hB hP hD hS 0 rfl (Nat.le_of_ble_eq_true rfl) d_M_write_119 (fun H locs hP hD hS => ?_)
        have hP : va_P D classes (mW cs bd 0 (kp + 1) nx wh of (-1) T (upd Rc kp (nI 1)) (upd Sz kp (nI td)) (upd Nm kp nx) y1 R) H := hP
        have hD : va_D A (mW cs bd 0 (kp + 1) nx wh of (-1) T (upd Rc kp (nI 1)) (upd Sz kp (nI td)) (upd Nm kp nx) y1 R) := hD
        refine lv_aload_n hx hb d_M_write_122 rfl (lv_at hl 0 rfl) ?_
        refine lv_aload_n hx hb d_M_write_123 rfl (lv_at hl 0 rfl) ?_
        refine gf_M_52 (v := .int nx) hB hP 0 rfl rfl d_M_write_124 ?_
        refine lv_iconst (v := 1) hx hb d_M_write_127 (by decide) ?_
        refine lv_iadd hx hb d_M_write_128 ?_
        refine pf_M_52 hB hP hD hS 0 rfl (Nat.le_of_ble_eq_true rfl) d_M_write_129 (fun H locs hP hD hS => ?_)
        have hP : va_P D classes (mW cs bd 0 (kp + 1) (nx + 1) wh of (-1) T (upd Rc kp (nI 1)) (upd Sz kp (nI td)) (upd Nm kp nx) y1 R) H := hP
        have hD : va_D A (mW cs bd 0 (kp + 1) (nx + 1) wh of (-1) T (upd Rc kp (nI 1)) (upd Sz kp (nI td)) (upd Nm kp nx) y1 R) := hD
        refine lv_aload_n hx hb d_M_write_132 rfl (lv_at hl 0 rfl) ?_
        refine lv_aload_n hx hb d_M_write_133 rfl (lv_at hl 0 rfl) ?_
        refine gf_M_55 (v := .int wh) hB hP 0 rfl rfl d_M_write_134 ?_
        refine lv_iconst (v := 1) hx hb d_M_write_137 (by decide) ?_
        refine lv_iadd hx hb d_M_write_138 ?_
        refine pf_M_55 hB hP hD hS 0 rfl (Nat.le_of_ble_eq_true rfl) d_M_write_139 (fun H locs hP hD hS => ?_)
        have hP : va_P D classes (mW cs bd 0 (kp + 1) (nx + 1) (wh + 1) of (-1) T (upd Rc kp (nI 1)) (upd Sz kp (nI td)) (upd Nm kp nx) y1 R) H := hP
        have hD : va_D A (mW cs bd 0 (kp + 1) (nx + 1) (wh + 1) of (-1) T (upd Rc kp (nI 1)) (upd Sz kp (nI td)) (upd Nm kp nx) y1 R) := hD
        refine lv_aload_n hx hb d_M_write_142 rfl (lv_at hl 0 rfl) ?_
        refine gf_M_52 (v := .int (nx + 1)) hB hP 0 rfl rfl d_M_write_143 ?_
        refine lv_iconst (v := 1) hx hb d_M_write_146 (by decide) ?_
        refine lv_isub hx hb d_M_write_147 ?_
        refine tp_i (y := nx) (by rw [Int32.add_sub_cancel]) ?_
        exact r_iQ hB hr0 hlk hP hD hS ⟨rfl, y1, rfl, fun i hi => hy1 i (by omega), hy2⟩ d_M_write_148
      · skip
        refine lv_aload_n hx hb d_M_write_86 rfl (lv_at hl 0 rfl) ?_
        refine gf_M_23 (v := .ref (bd 5)) hB hP 0 rfl rfl d_M_write_87 ?_
        refine lv_bipush (v := nI 100) hx hb d_M_write_90 (by decide) ?_
        refine lv_aload_n hx hb d_M_write_92 rfl (lv_at hl 0 rfl) ?_
        refine gf_M_33 (v := .int (nI kp)) hB hP 0 rfl rfl d_M_write_93 ?_
        refine n_mul hx hb d_M_write_96 ?_
        refine lv_iload_n hx hb d_M_write_97 rfl (lv_at hl 2 rfl) ?_
        refine n_add hx hb d_M_write_98 ?_
        refine lv_aload_n hx hb d_M_write_99 rfl (lv_at hl 0 rfl) ?_
        refine gf_M_7 (v := .ref (bd 1)) hB hP 0 rfl rfl d_M_write_100 ?_
        refine lv_iload_n hx hb d_M_write_103 rfl (lv_at hl 2 rfl) ?_
        refine n_iald hx hb hK hP 1 3 rfl rfl (by omega) (by decide) d_M_write_104 ?_
        refine n_iast hx hb hK hP hD hS 5 3 rfl rfl (by omega) (by decide) d_M_write_105 (fun H locs hP hD hS => ?_)
        have hP : va_P D classes (mW cs bd 0 kp nx wh of (-1) T (upd Rc kp (nI 1)) (upd Sz kp (nI td)) (upd Nm kp nx) (upd y1 ((100 * kp) + k) (T k)) R) H := hP
        have hD : va_D A (mW cs bd 0 kp nx wh of (-1) T (upd Rc kp (nI 1)) (upd Sz kp (nI td)) (upd Nm kp nx) (upd y1 ((100 * kp) + k) (T k)) R) := hD
        refine n_inc (d := 1) (k := 2) (lv' := [(2, .int (nI (k + 1))), (0, .ref (bd 0)), (1, .int (nI td))]) hx hb d_M_write_106 (by decide) hl rfl (by decide) rfl (fun ls hl => ?_)
        refine lv_goto (tgt := 81) hx hb d_M_write_109 (by decide) ?_
        exact ih (k + 1) (upd y1 (100 * kp + k) (T k)) (by omega) (fun i hi => by
            by_cases e : i = k
            · subst e; rw [pk_us]
            · rw [pk_un (by omega)]; exact hy1 i (by omega)) (fun q hq => by rw [pk_un (by omega)]; exact hy2 q hq) (by omega) _ _ hP hD hS ls (lv_sub hl [1, 2, 0] rfl)
  exact loop (td + 1) 0 By (by omega) (fun i hi => absurd hi (Nat.not_lt_zero i)) (fun _ _ => rfl) (by omega) _ _ hP hD hS ls (lv_sub hl [2, 1, 0] rfl)
set_option maxHeartbeats 4000000 in
set_option maxRecDepth 100000 in
/-- an entry is moved ahead -/
theorem c_M_move (l : Launch) {D : va_G} {A : Nat → Prop} {cs : Nat → ClassId} {bd : Nat → Nat} {td kp : Nat} {nx wh of cu : Int32} {T Rc Sz Nm By : Nat → Int32} {R : va_W} {a b w : Nat} (hab : b ≤ a) (ha : a < 41) (hw : w ≤ 100) (hz : Sz a = nI w) (hbo : vp_nar .boolean (Rc a) = Rc a) : Met l y_M_move (Cond.code y_M_move b_M_move 4 none :: gw) (rmn 0) (va_Pc [.ref (bd 0), .int (nI a), .int (nI b)] (St D cs A (mW cs bd td kp nx wh of cu T Rc Sz Nm By R))) (QV D A (fun z => ∃ Y1 : Nat → Int32, z = mW cs bd td kp nx wh of cu T (upd Rc b (Rc a)) (upd Sz b (Sz a)) (upd Nm b (Nm a)) Y1 R ∧ (∀ i, i < w → Y1 (100 * b + i) = By (100 * a + i)) ∧ ∀ q, (q < 100 * b ∨ 100 * b + 100 ≤ q) → Y1 q = By q)) 0 0 A := by
  refine x_start (by decide) (Nat.le_of_ble_eq_true rfl) ?_
  intro p e s m below meth c hB hr hlk hin hP hD ls hl
  have hx := hB.1
  have hb := hB.2.1
  have hown := hB.2.2.2.1
  have hts := hB.2.2.2.2.1
  have hK := hB.2.2.2.2.2.1
  have hS : va_S A s.heap s.heap [] := va_S.rf
  have hl : lv_has ls 4 [(0, .ref (bd 0)), (1, .int (nI a)), (2, .int (nI b))] := hl
  have hr0 := hr
  have hsz : (upd Sz b (Sz a)) a = nI w := by
    by_cases e : a = b
    · rw [e, pk_us, ← e, hz]
    · rw [pk_un e, hz]
  refine lv_aload_n hx hb d_M_move_0 rfl (lv_at hl 0 rfl) ?_
  refine gf_M_13 (v := .ref (bd 2)) hB hP 0 rfl rfl d_M_move_1 ?_
  refine lv_iload_n hx hb d_M_move_4 rfl (lv_at hl 2 rfl) ?_
  refine lv_aload_n hx hb d_M_move_5 rfl (lv_at hl 0 rfl) ?_
  refine gf_M_13 (v := .ref (bd 2)) hB hP 0 rfl rfl d_M_move_6 ?_
  refine lv_iload_n hx hb d_M_move_9 rfl (lv_at hl 1 rfl) ?_
  refine n_zald hx hb hK hP 2 1 rfl rfl (by omega) (by decide) d_M_move_10 ?_
  refine n_zast hx hb hK hP hD hS 2 1 rfl rfl hbo (by omega) (by decide) d_M_move_11 (fun H locs hP hD hS => ?_)
  have hP : va_P D classes (mW cs bd td kp nx wh of cu T (upd Rc b (Rc a)) Sz Nm By R) H := hP
  have hD : va_D A (mW cs bd td kp nx wh of cu T (upd Rc b (Rc a)) Sz Nm By R) := hD
  refine lv_aload_n hx hb d_M_move_12 rfl (lv_at hl 0 rfl) ?_
  refine gf_M_17 (v := .ref (bd 3)) hB hP 0 rfl rfl d_M_move_13 ?_
  refine lv_iload_n hx hb d_M_move_16 rfl (lv_at hl 2 rfl) ?_
  refine lv_aload_n hx hb d_M_move_17 rfl (lv_at hl 0 rfl) ?_
  refine gf_M_17 (v := .ref (bd 3)) hB hP 0 rfl rfl d_M_move_18 ?_
  refine lv_iload_n hx hb d_M_move_21 rfl (lv_at hl 1 rfl) ?_
  refine n_iald hx hb hK hP 3 3 rfl rfl (by omega) (by decide) d_M_move_22 ?_
  refine n_iast hx hb hK hP hD hS 3 3 rfl rfl (by omega) (by decide) d_M_move_23 (fun H locs hP hD hS => ?_)
  have hP : va_P D classes (mW cs bd td kp nx wh of cu T (upd Rc b (Rc a)) (upd Sz b (Sz a)) Nm By R) H := hP
  have hD : va_D A (mW cs bd td kp nx wh of cu T (upd Rc b (Rc a)) (upd Sz b (Sz a)) Nm By R) := hD
  refine lv_aload_n hx hb d_M_move_24 rfl (lv_at hl 0 rfl) ?_
  refine gf_M_20 (v := .ref (bd 4)) hB hP 0 rfl rfl d_M_move_25 ?_
  refine lv_iload_n hx hb d_M_move_28 rfl (lv_at hl 2 rfl) ?_
  refine lv_aload_n hx hb d_M_move_29 rfl (lv_at hl 0 rfl) ?_
  refine gf_M_20 (v := .ref (bd 4)) hB hP 0 rfl rfl d_M_move_30 ?_
  refine lv_iload_n hx hb d_M_move_33 rfl (lv_at hl 1 rfl) ?_
  refine n_iald hx hb hK hP 4 3 rfl rfl (by omega) (by decide) d_M_move_34 ?_
  refine n_iast hx hb hK hP hD hS 4 3 rfl rfl (by omega) (by decide) d_M_move_35 (fun H locs hP hD hS => ?_)
  have hP : va_P D classes (mW cs bd td kp nx wh of cu T (upd Rc b (Rc a)) (upd Sz b (Sz a)) (upd Nm b (Nm a)) By R) H := hP
  have hD : va_D A (mW cs bd td kp nx wh of cu T (upd Rc b (Rc a)) (upd Sz b (Sz a)) (upd Nm b (Nm a)) By R) := hD
  refine lv_iconst (v := nI 0) hx hb d_M_move_36 (by decide) ?_
  refine lv_istore_n (lv' := [(3, .int (nI 0)), (0, .ref (bd 0)), (1, .int (nI a)), (2, .int (nI b))]) hx hb d_M_move_37 rfl hl (by decide) rfl (fun ls hl => ?_)
  have loop : ∀ (n : Nat) (k : Nat) (y1 : Nat → Int32), (k ≤ w) → (∀ i, i < k → y1 (100 * b + i) = By (100 * a + i)) → (∀ q, (q < 100 * b ∨ 100 * b + 100 ≤ q) → y1 q = By q) → (∀ i, i < 100 → y1 (100 * a + i) = By (100 * a + i)) → (w + 1 ≤ k + n) → ∀ (H : Heap) (locs : List Loc), va_P D classes (mW cs bd td kp nx wh of cu T (upd Rc b (Rc a)) (upd Sz b (Sz a)) (upd Nm b (Nm a)) y1 R) H → va_D A (mW cs bd td kp nx wh of cu T (upd Rc b (Rc a)) (upd Sz b (Sz a)) (upd Nm b (Nm a)) y1 R) → va_S A s.heap H locs → ∀ ls : Array Slot, lv_has ls 4 [(0, .ref (bd 0)), (1, .int (nI a)), (2, .int (nI b)), (3, .int (nI k))] → W p l e (rmn 0) s m ([.ref (bd 0), .int (nI a), .int (nI b)] : List Value).toArray below meth c H locs 0 0 (MQ below (QV D A (fun z => ∃ Y1 : Nat → Int32, z = mW cs bd td kp nx wh of cu T (upd Rc b (Rc a)) (upd Sz b (Sz a)) (upd Nm b (Nm a)) Y1 R ∧ (∀ i, i < w → Y1 (100 * b + i) = By (100 * a + i)) ∧ ∀ q, (q < 100 * b ∨ 100 * b + 100 ≤ q) → Y1 q = By q)) ([.ref (bd 0), .int (nI a), .int (nI b)] : List Value).toArray s 0 0 A) (F0 m 38 ls []) := by
    intro n
    induction n with
    | zero => intro k y1 hk0 hy1 hy2 hsrc hm; exfalso; omega
    | succ n ih =>
      intro k y1 hk0 hy1 hy2 hsrc hm H locs hP hD hS ls hl
      refine lv_iload_n hx hb d_M_move_38 rfl (lv_at hl 3 rfl) ?_
      refine lv_aload_n hx hb d_M_move_39 rfl (lv_at hl 0 rfl) ?_
      refine gf_M_17 (v := .ref (bd 3)) hB hP 0 rfl rfl d_M_move_40 ?_
      refine lv_iload_n hx hb d_M_move_43 rfl (lv_at hl 1 rfl) ?_
      refine n_iald hx hb hK hP 3 3 rfl rfl (by omega) (by decide) d_M_move_44 ?_
      refine tp_i (y := nI w) hsz ?_
      refine n_icmp_ge hx hb (by omega) (by omega) (tgt := 76) d_M_move_45 (by decide) (fun hc45 => ?_) (fun hc45 => ?_)
      · skip
        exact r_vQ hB hr0 hlk hP hD hS ⟨y1, rfl, fun i hi => hy1 i (by omega), hy2⟩ d_M_move_76
      · skip
        refine lv_aload_n hx hb d_M_move_48 rfl (lv_at hl 0 rfl) ?_
        refine gf_M_23 (v := .ref (bd 5)) hB hP 0 rfl rfl d_M_move_49 ?_
        refine lv_bipush (v := nI 100) hx hb d_M_move_52 (by decide) ?_
        refine lv_iload_n hx hb d_M_move_54 rfl (lv_at hl 2 rfl) ?_
        refine n_mul hx hb d_M_move_55 ?_
        refine lv_iload_n hx hb d_M_move_56 rfl (lv_at hl 3 rfl) ?_
        refine n_add hx hb d_M_move_57 ?_
        refine lv_aload_n hx hb d_M_move_58 rfl (lv_at hl 0 rfl) ?_
        refine gf_M_23 (v := .ref (bd 5)) hB hP 0 rfl rfl d_M_move_59 ?_
        refine lv_bipush (v := nI 100) hx hb d_M_move_62 (by decide) ?_
        refine lv_iload_n hx hb d_M_move_64 rfl (lv_at hl 1 rfl) ?_
        refine n_mul hx hb d_M_move_65 ?_
        refine lv_iload_n hx hb d_M_move_66 rfl (lv_at hl 3 rfl) ?_
        refine n_add hx hb d_M_move_67 ?_
        refine n_iald hx hb hK hP 5 3 rfl rfl (by omega) (by decide) d_M_move_68 ?_
        refine tp_i (y := (By (100 * a + k))) (hsrc k (by omega)) ?_
        refine n_iast hx hb hK hP hD hS 5 3 rfl rfl (by omega) (by decide) d_M_move_69 (fun H locs hP hD hS => ?_)
        have hP : va_P D classes (mW cs bd td kp nx wh of cu T (upd Rc b (Rc a)) (upd Sz b (Sz a)) (upd Nm b (Nm a)) (upd y1 ((100 * b) + k) (By (100 * a + k))) R) H := hP
        have hD : va_D A (mW cs bd td kp nx wh of cu T (upd Rc b (Rc a)) (upd Sz b (Sz a)) (upd Nm b (Nm a)) (upd y1 ((100 * b) + k) (By (100 * a + k))) R) := hD
        refine n_inc (d := 1) (k := 3) (lv' := [(3, .int (nI (k + 1))), (0, .ref (bd 0)), (1, .int (nI a)), (2, .int (nI b))]) hx hb d_M_move_70 (by decide) hl rfl (by decide) rfl (fun ls hl => ?_)
        refine lv_goto (tgt := 38) hx hb d_M_move_73 (by decide) ?_
        exact ih (k + 1) (upd y1 (100 * b + k) (By (100 * a + k))) (by omega) (fun i hi => by
            by_cases e : i = k
            · subst e; rw [pk_us]
            · rw [pk_un (by omega)]; exact hy1 i (by omega)) (fun q hq => by rw [pk_un (by omega)]; exact hy2 q hq) (fun i hi => by
            by_cases e : 100 * a + i = 100 * b + k
            · rw [e, pk_us, ← e, show i = k by omega]
            · rw [pk_un e]; exact hsrc i hi) (by omega) _ _ hP hD hS ls (lv_sub hl [1, 2, 3, 0] rfl)
  exact loop (w + 1) 0 By (by omega) (fun i hi => absurd hi (Nat.not_lt_zero i)) (fun _ _ => rfl) (fun _ _ => rfl) (by omega) _ _ hP hD hS ls (lv_sub hl [1, 2, 3, 0] rfl)
/-- i entries from place f on have been moved ahead -/
def mvd (f i : Nat) (sN : Nat → Nat) (Rc Sz Nm By Rc2 Sz2 Nm2 By2 : Nat → Int32) : Prop :=
  (∀ a, a < i → Rc2 a = Rc (f + a) ∧ Sz2 a = Sz (f + a) ∧ Nm2 a = Nm (f + a) ∧ ∀ b, b < sN (f + a) → By2 (100 * a + b) = By (100 * (f + a) + b)) ∧ ∀ a, i ≤ a → Rc2 a = Rc a ∧ Sz2 a = Sz a ∧ Nm2 a = Nm a ∧ ∀ b, b < 100 → By2 (100 * a + b) = By (100 * a + b)
theorem mvd_0 {f : Nat} {sN : Nat → Nat} {Rc Sz Nm By : Nat → Int32} : mvd f 0 sN Rc Sz Nm By Rc Sz Nm By := ⟨fun a ha => absurd ha (Nat.not_lt_zero a), fun a _ => ⟨rfl, rfl, rfl, fun _ _ => rfl⟩⟩
theorem mvd_s {f i : Nat} {sN : Nat → Nat} {Rc Sz Nm By Rc2 Sz2 Nm2 By2 By3 : Nat → Int32} (h : mvd f i sN Rc Sz Nm By Rc2 Sz2 Nm2 By2) (hs : ∀ k, sN k ≤ 100) (h1 : ∀ b, b < sN (f + i) → By3 (100 * i + b) = By2 (100 * (f + i) + b)) (h2 : ∀ q, (q < 100 * i ∨ 100 * i + 100 ≤ q) → By3 q = By2 q) : mvd f (i + 1) sN Rc Sz Nm By (upd Rc2 i (Rc2 (f + i))) (upd Sz2 i (Sz2 (f + i))) (upd Nm2 i (Nm2 (f + i))) By3 := by
  refine ⟨fun a ha => ?_, fun a ha => ?_⟩
  · by_cases e : a = i
    · subst e
      obtain ⟨q1, q2, q3, q4⟩ := h.2 (f + a) (by omega)
      rw [pk_us, pk_us, pk_us]
      exact ⟨q1, q2, q3, fun b hb => by rw [h1 b hb]; exact q4 b (by have := hs (f + a); omega)⟩
    · obtain ⟨q1, q2, q3, q4⟩ := h.1 a (by omega)
      rw [pk_un e, pk_un e, pk_un e]
      refine ⟨q1, q2, q3, fun b hb => ?_⟩
      have hsa := hs (f + a)
      rw [h2 _ (by omega)]
      exact q4 b hb
  · obtain ⟨q1, q2, q3, q4⟩ := h.2 a (by omega)
    have e : ¬ a = i := by omega
    rw [pk_un e, pk_un e, pk_un e]
    exact ⟨q1, q2, q3, fun b hb => by rw [h2 _ (by omega)]; exact q4 b hb⟩
set_option maxHeartbeats 4000000 in
set_option maxRecDepth 100000 in
/-- drop -/
theorem c_M_dropN (l : Launch) {D : va_G} {A : Nat → Prop} {cs : Nat → ClassId} {bd : Nat → Nat} {td kp : Nat} {nx wh of cu : Int32} {T Rc Sz Nm By : Nat → Int32} {R : va_W} {sN : Nat → Nat} {q : Nat} {x : Int32} (hk : kp ≤ 41) (hs : ∀ k, sN k ≤ 100) (hz : ∀ k, k < kp → Sz k = nI (sN k) ∧ (Rc k = 0 → sN k = 0)) (h : ¬ ((of = 0 ∧ us sN 0 kp + 1 ≤ 40) ∧ ∃ j, j ≤ mn (qR Rc) 0 kp ∧ x = nI j)) : Met l y_M_drop (Cond.code y_M_drop b_M_drop 7 (some .int) :: gw) (rmn 2) (va_Pc [.ref (bd 0), .int x] (St D cs A (mW cs bd td kp nx wh of cu T Rc Sz Nm By R))) (QI D A (fun r z => r = -1 ∧ z = mW cs bd td kp nx wh of cu T Rc Sz Nm By R)) 0 0 A := by
  refine x_start (by decide) (Nat.le_of_ble_eq_true rfl) ?_
  intro p e s m below meth c hB hr hlk hin hP hD ls hl
  have hx := hB.1
  have hb := hB.2.1
  have hown := hB.2.2.2.1
  have hts := hB.2.2.2.2.1
  have hK := hB.2.2.2.2.2.1
  have hS : va_S A s.heap s.heap [] := va_S.rf
  have hl : lv_has ls 7 [(0, .ref (bd 0)), (1, .int x)] := hl
  have hr0 := hr
  have hU := us_le sN 0 kp (fun j _ => hs _)
  have hG := us_ge sN 0 kp
  have hml := mn_le (qR Rc) 0 kp
  refine lv_aload_n hx hb d_M_drop_0 rfl (lv_at hl 0 rfl) ?_
  refine gf_M_40 (v := .int of) hB hP 0 rfl rfl d_M_drop_1 ?_
  refine lv_if_ne (tgt := 30) hx hb d_M_drop_4 (by decide) (fun hc4 => ?_) (fun hc4 => ?_)
  · skip
    refine lv_iconst (v := (-1)) hx hb d_M_drop_30 (by decide) ?_
    exact r_iQ hB hr0 hlk hP hD hS ⟨rfl, rfl⟩ d_M_drop_31
  · skip
    refine lv_iload_n hx hb d_M_drop_7 rfl (lv_at hl 1 rfl) ?_
    refine lv_if_lt (tgt := 30) hx hb d_M_drop_8 (by decide) (fun hc8 => ?_) (fun hc8 => ?_)
    · skip
      refine lv_iconst (v := (-1)) hx hb d_M_drop_30 (by decide) ?_
      exact r_iQ hB hr0 hlk hP hD hS ⟨rfl, rfl⟩ d_M_drop_31
    · skip
      obtain ⟨j, hj31, hxj⟩ := nI_of (x := x) hc8
      rw [hxj] at hl
      refine lv_iload_n hx hb d_M_drop_11 rfl (lv_at hl 1 rfl) ?_
      refine lv_aload_n hx hb d_M_drop_12 rfl (lv_at hl 0 rfl) ?_
      refine x_cSi (As := []) (rest := [.int (nI j)]) (n := 0) hB (c_M_records l hk) gi_M_58 (by decide +kernel) rfl rfl ⟨Nat.le_of_ble_eq_true rfl, Nat.le_of_ble_eq_true rfl⟩ hP hD 0 rfl rfl hl.1 rfl (Nat.le_of_ble_eq_true rfl) d_M_drop_13 ⟨Nat.le_of_ble_eq_true rfl, Nat.le_of_ble_eq_true rfl⟩ (fun r hr => ?_)
      subst hr
      refine n_icmp_gt hx hb (by omega) (by omega) (tgt := 30) d_M_drop_16 (by decide) (fun hc16 => ?_) (fun hc16 => ?_)
      · skip
        refine lv_iconst (v := (-1)) hx hb d_M_drop_30 (by decide) ?_
        exact r_iQ hB hr0 hlk hP hD hS ⟨rfl, rfl⟩ d_M_drop_31
      · skip
        refine lv_aload_n hx hb d_M_drop_19 rfl (lv_at hl 0 rfl) ?_
        refine x_cSi (As := []) (rest := []) (n := 0) hB (c_M_used l hk hs hz) gi_M_44 (by decide +kernel) rfl rfl ⟨Nat.le_of_ble_eq_true rfl, Nat.le_of_ble_eq_true rfl⟩ hP hD 0 rfl rfl hl.1 rfl (Nat.le_of_ble_eq_true rfl) d_M_drop_20 ⟨Nat.le_of_ble_eq_true rfl, Nat.le_of_ble_eq_true rfl⟩ (fun r hr => ?_)
        subst hr
        refine lv_iconst (v := nI 1) hx hb d_M_drop_23 (by decide) ?_
        refine n_add hx hb d_M_drop_24 ?_
        refine lv_bipush (v := nI 40) hx hb d_M_drop_25 (by decide) ?_
        refine n_icmp_le hx hb (by omega) (by omega) (tgt := 32) d_M_drop_27 (by decide) (fun hc27 => (absurd ⟨⟨hc4, hc27⟩, j, hc16, hxj⟩ h)) (fun hc27 => ?_)
        refine lv_iconst (v := (-1)) hx hb d_M_drop_30 (by decide) ?_
        exact r_iQ hB hr0 hlk hP hD hS ⟨rfl, rfl⟩ d_M_drop_31
set_option maxHeartbeats 4000000 in
set_option maxRecDepth 100000 in
/-- drop -/
theorem c_M_dropC (l : Launch) {D : va_G} {A : Nat → Prop} {cs : Nat → ClassId} {bd : Nat → Nat} {td kp : Nat} {nx wh of cu : Int32} {T Rc Sz Nm By : Nat → Int32} {R : va_W} {sN : Nat → Nat} {q j : Nat} (hk : kp ≤ 41) (hs : ∀ k, sN k ≤ 100) (hz : ∀ k, k < kp → Sz k = nI (sN k) ∧ (Rc k = 0 → sN k = 0)) (hj : j ≤ mn (qR Rc) 0 kp) (h : of = 0 ∧ us sN 0 kp + 1 ≤ 40) (hq : q ≤ 8) : Met l y_M_drop (Cond.code y_M_drop b_M_drop 7 (some .int) :: gw) (rmn 2) (va_Pc [.ref (bd 0), .int (nI j)] (St D cs A (mW cs bd td kp nx wh of (nI q) T Rc Sz Nm By R))) (QI D A (fun r z => r = -2 ∧ z = mW cs bd td kp nx wh (nI 1) (-1) T Rc Sz Nm By R)) 0 0 A := by
  refine x_start (by decide) (Nat.le_of_ble_eq_true rfl) ?_
  intro p e s m below meth c hB hr hlk hin hP hD ls hl
  have hx := hB.1
  have hb := hB.2.1
  have hown := hB.2.2.2.1
  have hts := hB.2.2.2.2.1
  have hK := hB.2.2.2.2.2.1
  have hS : va_S A s.heap s.heap [] := va_S.rf
  have hl : lv_has ls 7 [(0, .ref (bd 0)), (1, .int (nI j))] := hl
  have hr0 := hr
  have hU := us_le sN 0 kp (fun j _ => hs _)
  have hG := us_ge sN 0 kp
  have hml := mn_le (qR Rc) 0 kp
  refine lv_aload_n hx hb d_M_drop_0 rfl (lv_at hl 0 rfl) ?_
  refine gf_M_40 (v := .int of) hB hP 0 rfl rfl d_M_drop_1 ?_
  refine lv_if_ne (tgt := 30) hx hb d_M_drop_4 (by decide) (fun hc4 => (absurd h.1 hc4)) (fun hc4 => ?_)
  refine lv_iload_n hx hb d_M_drop_7 rfl (lv_at hl 1 rfl) ?_
  refine n_if_lt hx hb (by omega) (tgt := 30) d_M_drop_8 (by decide) ?_
  refine lv_iload_n hx hb d_M_drop_11 rfl (lv_at hl 1 rfl) ?_
  refine lv_aload_n hx hb d_M_drop_12 rfl (lv_at hl 0 rfl) ?_
  refine x_cSi (As := []) (rest := [.int (nI j)]) (n := 0) hB (c_M_records l hk) gi_M_58 (by decide +kernel) rfl rfl ⟨Nat.le_of_ble_eq_true rfl, Nat.le_of_ble_eq_true rfl⟩ hP hD 0 rfl rfl hl.1 rfl (Nat.le_of_ble_eq_true rfl) d_M_drop_13 ⟨Nat.le_of_ble_eq_true rfl, Nat.le_of_ble_eq_true rfl⟩ (fun r hr => ?_)
  subst hr
  refine n_icmp_gt hx hb (by omega) (by omega) (tgt := 30) d_M_drop_16 (by decide) (fun hc16 => (absurd hc16 (by omega))) (fun hc16 => ?_)
  refine lv_aload_n hx hb d_M_drop_19 rfl (lv_at hl 0 rfl) ?_
  refine x_cSi (As := []) (rest := []) (n := 0) hB (c_M_used l hk hs hz) gi_M_44 (by decide +kernel) rfl rfl ⟨Nat.le_of_ble_eq_true rfl, Nat.le_of_ble_eq_true rfl⟩ hP hD 0 rfl rfl hl.1 rfl (Nat.le_of_ble_eq_true rfl) d_M_drop_20 ⟨Nat.le_of_ble_eq_true rfl, Nat.le_of_ble_eq_true rfl⟩ (fun r hr => ?_)
  subst hr
  refine lv_iconst (v := nI 1) hx hb d_M_drop_23 (by decide) ?_
  refine n_add hx hb d_M_drop_24 ?_
  refine lv_bipush (v := nI 40) hx hb d_M_drop_25 (by decide) ?_
  refine n_icmp_le hx hb (by omega) (by omega) (tgt := 32) d_M_drop_27 (by decide) (fun hc27 => ?_) (fun hc27 => (absurd h.2 (by omega)))
  refine lv_aload_n hx hb d_M_drop_32 rfl (lv_at hl 0 rfl) ?_
  refine x_cQi (As := []) (rest := []) (n := 0) hB (c_M_isCutC l (q := q) (cu := 0) hq) gi_M_48 (by decide +kernel) rfl rfl ⟨Nat.le_of_ble_eq_true rfl, Nat.le_of_ble_eq_true rfl⟩ hP hD hS 0 rfl rfl hl.1 rfl (Nat.le_of_ble_eq_true rfl) d_M_drop_33 ⟨Nat.le_of_ble_eq_true rfl, Nat.le_of_ble_eq_true rfl⟩ (fun r w H locs hw hP hD hS => ?_)
  obtain ⟨rfl, rfl⟩ := hw
  refine tp_i (y := nI 1) rfl ?_
  refine n_if_eq hx hb (by omega) (tgt := 42) d_M_drop_36 (by decide) (fun h => absurd h (by decide)) (fun _ => ?_)
  refine lv_bipush (v := (-2)) hx hb d_M_drop_39 (by decide) ?_
  exact r_iQ hB hr0 hlk hP hD hS ⟨rfl, rfl⟩ d_M_drop_41
set_option maxHeartbeats 4000000 in
set_option maxRecDepth 100000 in
/-- drop -/
theorem c_M_drop (l : Launch) {D : va_G} {A : Nat → Prop} {cs : Nat → ClassId} {bd : Nat → Nat} {td kp : Nat} {nx wh of cu : Int32} {T Rc Sz Nm By : Nat → Int32} {R : va_W} {sN : Nat → Nat} {q j : Nat} {Rc1 Sz1 : Nat → Int32} (hk : kp ≤ 41) (hs : ∀ k, sN k ≤ 100) (hz : ∀ k, k < kp → Sz k = nI (sN k) ∧ (Rc k = 0 → sN k = 0)) (hj : j ≤ mn (qR Rc) 0 kp) (h : of = 0 ∧ us sN 0 kp + 1 ≤ 40) (hbo : ∀ k, k < kp → vp_nar .boolean (Rc k) = Rc k) (hR1 : upd Rc kp (nI 0) = Rc1) (hS1 : upd Sz kp (nI 0) = Sz1) : Met l y_M_drop (Cond.code y_M_drop b_M_drop 7 (some .int) :: gw) (rmn 2) (va_Pc [.ref (bd 0), .int (nI j)] (St D cs A (mW cs bd td kp nx wh of (-1) T Rc Sz Nm By R))) (QI D A (fun r z => ∃ (f : Nat) (Rc2 Sz2 Nm2 By2 : Nat → Int32), r = nI (mn (qR Rc) 0 kp - j) ∧ f ≤ kp ∧ (f = kp ∨ (¬ Rc1 f = 0 ∧ j ≤ mn (qR Rc1) 0 f)) ∧ (∀ k, k < f → ¬ Rc1 k = 0 → ¬ j ≤ mn (qR Rc1) 0 k) ∧ z = mW cs bd td (kp + 1 - f) nx (wh + 1) of (-1) T Rc2 Sz2 Nm2 By2 R ∧ mvd f (kp + 1 - f) (va_up sN kp 0) Rc1 Sz1 Nm By Rc2 Sz2 Nm2 By2)) 0 0 A := by
  refine x_start (by decide) (Nat.le_of_ble_eq_true rfl) ?_
  intro p e s m below meth c hB hr hlk hin hP hD ls hl
  have hx := hB.1
  have hb := hB.2.1
  have hown := hB.2.2.2.1
  have hts := hB.2.2.2.2.1
  have hK := hB.2.2.2.2.2.1
  have hS : va_S A s.heap s.heap [] := va_S.rf
  have hl : lv_has ls 7 [(0, .ref (bd 0)), (1, .int (nI j))] := hl
  have hr0 := hr
  have hU := us_le sN 0 kp (fun j _ => hs _)
  have hG := us_ge sN 0 kp
  have hml := mn_le (qR Rc) 0 kp
  have hm1 : mn (qR Rc1) 0 (kp + 1) = mn (qR Rc) 0 kp := by
    rw [← hR1, mn_0, if_pos (qR_t (by rw [pk_us]; exact nI_0)), Nat.add_zero]
    exact mn_congr kp (fun a ha => by unfold qR; rw [pk_un (by omega)])
  have hR1k : Rc1 kp = 0 := by rw [← hR1, pk_us]; exact nI_0
  have hbo1 : ∀ k, k < kp + 1 → vp_nar .boolean (Rc1 k) = Rc1 k := by
    intro k hk
    by_cases e : k = kp
    · rw [e, hR1k]; decide
    · rw [← hR1, pk_un e]; exact hbo k (by omega)
  have hz1 : ∀ k, k < kp + 1 → Sz1 k = nI (va_up sN kp 0 k) := by
    intro k hk
    by_cases e : k = kp
    · rw [e, ← hS1, pk_us, va_up_self]
    · rw [← hS1, pk_un e, va_up_ne _ _ e]; exact (hz k (by omega)).1
  have hs1 : ∀ k, va_up sN kp 0 k ≤ 100 := by
    intro k
    by_cases e : k = kp
    · rw [e, va_up_self]; omega
    · rw [va_up_ne _ _ e]; exact hs k
  refine lv_aload_n hx hb d_M_drop_0 rfl (lv_at hl 0 rfl) ?_
  refine gf_M_40 (v := .int of) hB hP 0 rfl rfl d_M_drop_1 ?_
  refine lv_if_ne (tgt := 30) hx hb d_M_drop_4 (by decide) (fun hc4 => (absurd h.1 hc4)) (fun hc4 => ?_)
  refine lv_iload_n hx hb d_M_drop_7 rfl (lv_at hl 1 rfl) ?_
  refine n_if_lt hx hb (by omega) (tgt := 30) d_M_drop_8 (by decide) ?_
  refine lv_iload_n hx hb d_M_drop_11 rfl (lv_at hl 1 rfl) ?_
  refine lv_aload_n hx hb d_M_drop_12 rfl (lv_at hl 0 rfl) ?_
  refine x_cSi (As := []) (rest := [.int (nI j)]) (n := 0) hB (c_M_records l hk) gi_M_58 (by decide +kernel) rfl rfl ⟨Nat.le_of_ble_eq_true rfl, Nat.le_of_ble_eq_true rfl⟩ hP hD 0 rfl rfl hl.1 rfl (Nat.le_of_ble_eq_true rfl) d_M_drop_13 ⟨Nat.le_of_ble_eq_true rfl, Nat.le_of_ble_eq_true rfl⟩ (fun r hr => ?_)
  subst hr
  refine n_icmp_gt hx hb (by omega) (by omega) (tgt := 30) d_M_drop_16 (by decide) (fun hc16 => (absurd hc16 (by omega))) (fun hc16 => ?_)
  refine lv_aload_n hx hb d_M_drop_19 rfl (lv_at hl 0 rfl) ?_
  refine x_cSi (As := []) (rest := []) (n := 0) hB (c_M_used l hk hs hz) gi_M_44 (by decide +kernel) rfl rfl ⟨Nat.le_of_ble_eq_true rfl, Nat.le_of_ble_eq_true rfl⟩ hP hD 0 rfl rfl hl.1 rfl (Nat.le_of_ble_eq_true rfl) d_M_drop_20 ⟨Nat.le_of_ble_eq_true rfl, Nat.le_of_ble_eq_true rfl⟩ (fun r hr => ?_)
  subst hr
  refine lv_iconst (v := nI 1) hx hb d_M_drop_23 (by decide) ?_
  refine n_add hx hb d_M_drop_24 ?_
  refine lv_bipush (v := nI 40) hx hb d_M_drop_25 (by decide) ?_
  refine n_icmp_le hx hb (by omega) (by omega) (tgt := 32) d_M_drop_27 (by decide) (fun hc27 => ?_) (fun hc27 => (absurd h.2 (by omega)))
  refine lv_aload_n hx hb d_M_drop_32 rfl (lv_at hl 0 rfl) ?_
  refine x_cQi (As := []) (rest := []) (n := 0) hB (c_M_isCut l (cu := 0)) gi_M_48 (by decide +kernel) rfl rfl ⟨Nat.le_of_ble_eq_true rfl, Nat.le_of_ble_eq_true rfl⟩ hP hD hS 0 rfl rfl hl.1 rfl (Nat.le_of_ble_eq_true rfl) d_M_drop_33 ⟨Nat.le_of_ble_eq_true rfl, Nat.le_of_ble_eq_true rfl⟩ (fun r w H locs hw hP hD hS => ?_)
  obtain ⟨rfl, rfl⟩ := hw
  refine tp_i (y := nI 0) rfl ?_
  refine n_if_eq hx hb (by omega) (tgt := 42) d_M_drop_36 (by decide) (fun _ => ?_) (fun h => absurd h (by decide))
  refine lv_aload_n hx hb d_M_drop_42 rfl (lv_at hl 0 rfl) ?_
  refine lv_aload_n hx hb d_M_drop_43 rfl (lv_at hl 0 rfl) ?_
  refine gf_M_55 (v := .int wh) hB hP 0 rfl rfl d_M_drop_44 ?_
  refine lv_iconst (v := 1) hx hb d_M_drop_47 (by decide) ?_
  refine lv_iadd hx hb d_M_drop_48 ?_
  refine pf_M_55 hB hP hD hS 0 rfl (Nat.le_of_ble_eq_true rfl) d_M_drop_49 (fun H locs hP hD hS => ?_)
  have hP : va_P D classes (mW cs bd td kp nx (wh + 1) of (-1) T Rc Sz Nm By R) H := hP
  have hD : va_D A (mW cs bd td kp nx (wh + 1) of (-1) T Rc Sz Nm By R) := hD
  refine lv_aload_n hx hb d_M_drop_52 rfl (lv_at hl 0 rfl) ?_
  refine gf_M_13 (v := .ref (bd 2)) hB hP 0 rfl rfl d_M_drop_53 ?_
  refine lv_aload_n hx hb d_M_drop_56 rfl (lv_at hl 0 rfl) ?_
  refine gf_M_33 (v := .int (nI kp)) hB hP 0 rfl rfl d_M_drop_57 ?_
  refine lv_iconst (v := nI 0) hx hb d_M_drop_60 (by decide) ?_
  refine n_zast hx hb hK hP hD hS 2 1 rfl rfl (by decide) (by omega) (by decide) d_M_drop_61 (fun H locs hP hD hS => ?_)
  rw [hR1] at hP hD
  have hP : va_P D classes (mW cs bd td kp nx (wh + 1) of (-1) T Rc1 Sz Nm By R) H := hP
  have hD : va_D A (mW cs bd td kp nx (wh + 1) of (-1) T Rc1 Sz Nm By R) := hD
  refine lv_aload_n hx hb d_M_drop_62 rfl (lv_at hl 0 rfl) ?_
  refine gf_M_17 (v := .ref (bd 3)) hB hP 0 rfl rfl d_M_drop_63 ?_
  refine lv_aload_n hx hb d_M_drop_66 rfl (lv_at hl 0 rfl) ?_
  refine gf_M_33 (v := .int (nI kp)) hB hP 0 rfl rfl d_M_drop_67 ?_
  refine lv_iconst (v := nI 0) hx hb d_M_drop_70 (by decide) ?_
  refine n_iast hx hb hK hP hD hS 3 3 rfl rfl (by omega) (by decide) d_M_drop_71 (fun H locs hP hD hS => ?_)
  rw [hS1] at hP hD
  have hP : va_P D classes (mW cs bd td kp nx (wh + 1) of (-1) T Rc1 Sz1 Nm By R) H := hP
  have hD : va_D A (mW cs bd td kp nx (wh + 1) of (-1) T Rc1 Sz1 Nm By R) := hD
  refine lv_aload_n hx hb d_M_drop_72 rfl (lv_at hl 0 rfl) ?_
  refine lv_aload_n hx hb d_M_drop_73 rfl (lv_at hl 0 rfl) ?_
  refine gf_M_33 (v := .int (nI kp)) hB hP 0 rfl rfl d_M_drop_74 ?_
  refine lv_iconst (v := nI 1) hx hb d_M_drop_77 (by decide) ?_
  refine n_add hx hb d_M_drop_78 ?_
  refine pf_M_33 hB hP hD hS 0 rfl (Nat.le_of_ble_eq_true rfl) d_M_drop_79 (fun H locs hP hD hS => ?_)
  have hP : va_P D classes (mW cs bd td (kp + 1) nx (wh + 1) of (-1) T Rc1 Sz1 Nm By R) H := hP
  have hD : va_D A (mW cs bd td (kp + 1) nx (wh + 1) of (-1) T Rc1 Sz1 Nm By R) := hD
  refine lv_aload_n hx hb d_M_drop_82 rfl (lv_at hl 0 rfl) ?_
  refine x_cSi (As := []) (rest := []) (n := 0) hB (c_M_records l (by omega)) gi_M_58 (by decide +kernel) rfl rfl ⟨Nat.le_of_ble_eq_true rfl, Nat.le_of_ble_eq_true rfl⟩ hP hD 0 rfl rfl hl.1 rfl (Nat.le_of_ble_eq_true rfl) d_M_drop_83 ⟨Nat.le_of_ble_eq_true rfl, Nat.le_of_ble_eq_true rfl⟩ (fun r hr => ?_)
  subst hr
  refine tp_i (y := nI (mn (qR Rc) 0 kp)) (congrArg nI hm1) ?_
  refine lv_iload_n hx hb d_M_drop_86 rfl (lv_at hl 1 rfl) ?_
  refine n_sub hx hb hj d_M_drop_87 ?_
  refine lv_istore_n (lv' := [(2, .int (nI ((mn (qR Rc) 0 kp) - j))), (0, .ref (bd 0)), (1, .int (nI j))]) hx hb d_M_drop_88 rfl hl (by decide) rfl (fun ls hl => ?_)
  refine lv_aload_n hx hb d_M_drop_89 rfl (lv_at hl 1 rfl) ?_
  refine gf_M_33 (v := .int (nI (kp + 1))) hB hP 0 rfl rfl d_M_drop_90 ?_
  refine lv_iconst (v := nI 1) hx hb d_M_drop_93 (by decide) ?_
  refine n_sub hx hb (by omega) d_M_drop_94 ?_
  refine tp_i (y := nI kp) (congrArg nI (by omega)) ?_
  refine lv_istore_n (lv' := [(3, .int (nI kp)), (2, .int (nI ((mn (qR Rc) 0 kp) - j))), (0, .ref (bd 0)), (1, .int (nI j))]) hx hb d_M_drop_95 rfl hl (by decide) rfl (fun ls hl => ?_)
  refine lv_aload_n hx hb d_M_drop_96 rfl (lv_at hl 2 rfl) ?_
  refine gf_M_33 (v := .int (nI (kp + 1))) hB hP 0 rfl rfl d_M_drop_97 ?_
  refine lv_iconst (v := 1) hx hb d_M_drop_100 (by decide) ?_
  refine lv_isub hx hb d_M_drop_101 ?_
  refine lv_istore (lv' := [(4, .int ((nI (kp + 1)) - 1)), (3, .int (nI kp)), (2, .int (nI ((mn (qR Rc) 0 kp) - j))), (0, .ref (bd 0)), (1, .int (nI j))]) hx hb d_M_drop_102 hl (by decide) rfl (fun ls hl => ?_)
  have loop : ∀ (n u f : Nat), u ≤ kp + 1 → f ≤ kp → (∀ k, u ≤ k → k < kp + 1 → (¬ Rc1 k = 0 ∧ j ≤ mn (qR Rc1) 0 k) → f ≤ k) → (f = kp ∨ (u ≤ f ∧ f < kp ∧ (¬ Rc1 f = 0 ∧ j ≤ mn (qR Rc1) 0 f))) → u + 1 ≤ n → ∀ (H : Heap) (locs : List Loc), va_P D classes (mW cs bd td (kp + 1) nx (wh + 1) of (-1) T Rc1 Sz1 Nm By R) H → va_D A (mW cs bd td (kp + 1) nx (wh + 1) of (-1) T Rc1 Sz1 Nm By R) → va_S A s.heap H locs → ∀ ls : Array Slot, lv_has ls 7 [(0, .ref (bd 0)), (1, .int (nI j)), (2, .int (nI (mn (qR Rc) 0 kp - j))), (3, .int (nI f)), (4, .int (nI u - 1))] → W p l e (rmn 2) s m ([.ref (bd 0), .int (nI j)] : List Value).toArray below meth c H locs 0 0 (MQ below (QI D A (fun r z => ∃ (f : Nat) (Rc2 Sz2 Nm2 By2 : Nat → Int32), r = nI (mn (qR Rc) 0 kp - j) ∧ f ≤ kp ∧ (f = kp ∨ (¬ Rc1 f = 0 ∧ j ≤ mn (qR Rc1) 0 f)) ∧ (∀ k, k < f → ¬ Rc1 k = 0 → ¬ j ≤ mn (qR Rc1) 0 k) ∧ z = mW cs bd td (kp + 1 - f) nx (wh + 1) of (-1) T Rc2 Sz2 Nm2 By2 R ∧ mvd f (kp + 1 - f) (va_up sN kp 0) Rc1 Sz1 Nm By Rc2 Sz2 Nm2 By2)) ([.ref (bd 0), .int (nI j)] : List Value).toArray s 0 0 A) (F0 m 104 ls []) := by
    intro n
    induction n with
    | zero => intro u f hu hf0 hf2 hf1 hm; exfalso; omega
    | succ n ih =>
      intro u f hu hf0 hf2 hf1 hm H locs hP hD hS ls hl
      rcases u with _ | u
      · skip
        have hf1 : f = kp ∨ (¬ Rc1 f = 0 ∧ j ≤ mn (qR Rc1) 0 f) := hf1.imp id (fun q => q.2.2)
        have hf2 : ∀ k, k < f → ¬ Rc1 k = 0 → ¬ j ≤ mn (qR Rc1) 0 k := fun k h1 h2 h3 => by
          have := hf2 k (by omega) (by omega) ⟨h2, h3⟩
          omega
        refine lv_iload hx hb d_M_drop_104 (lv_at hl 4 rfl) ?_
        refine lv_if_lt (tgt := 174) hx hb d_M_drop_106 (by decide) (fun hc106 => ?_) (fun hc106 => (absurd (show nI 0 - 1 < 0 by decide) hc106))
        refine lv_iload_n hx hb d_M_drop_174 rfl (lv_at hl 3 rfl) ?_
        refine lv_istore (lv' := [(4, .int (nI f)), (0, .ref (bd 0)), (1, .int (nI j)), (2, .int (nI (mn (qR Rc) 0 kp - j))), (3, .int (nI f))]) hx hb d_M_drop_175 hl (by decide) rfl (fun ls hl => ?_)
        have loop2 : ∀ (n2 : Nat) (i : Nat) (Rc2 : Nat → Int32) (Sz2 : Nat → Int32) (Nm2 : Nat → Int32) (By2 : Nat → Int32), (f + i ≤ kp + 1) → (mvd f i (va_up sN kp 0) Rc1 Sz1 Nm By Rc2 Sz2 Nm2 By2) → (kp + 2 ≤ f + i + n2) → ∀ (H : Heap) (locs : List Loc), va_P D classes (mW cs bd td (kp + 1) nx (wh + 1) of (-1) T Rc2 Sz2 Nm2 By2 R) H → va_D A (mW cs bd td (kp + 1) nx (wh + 1) of (-1) T Rc2 Sz2 Nm2 By2 R) → va_S A s.heap H locs → ∀ ls : Array Slot, lv_has ls 7 [(0, .ref (bd 0)), (2, .int (nI (mn (qR Rc) 0 kp - j))), (3, .int (nI f)), (4, .int (nI (f + i)))] → W p l e (rmn 2) s m ([.ref (bd 0), .int (nI j)] : List Value).toArray below meth c H locs 0 0 (MQ below (QI D A (fun r z => ∃ (f : Nat) (Rc2 Sz2 Nm2 By2 : Nat → Int32), r = nI (mn (qR Rc) 0 kp - j) ∧ f ≤ kp ∧ (f = kp ∨ (¬ Rc1 f = 0 ∧ j ≤ mn (qR Rc1) 0 f)) ∧ (∀ k, k < f → ¬ Rc1 k = 0 → ¬ j ≤ mn (qR Rc1) 0 k) ∧ z = mW cs bd td (kp + 1 - f) nx (wh + 1) of (-1) T Rc2 Sz2 Nm2 By2 R ∧ mvd f (kp + 1 - f) (va_up sN kp 0) Rc1 Sz1 Nm By Rc2 Sz2 Nm2 By2)) ([.ref (bd 0), .int (nI j)] : List Value).toArray s 0 0 A) (F0 m 177 ls []) := by
          intro n2
          induction n2 with
          | zero => intro i Rc2 Sz2 Nm2 By2 hi0 hmv hm2; exfalso; omega
          | succ n2 ih =>
            intro i Rc2 Sz2 Nm2 By2 hi0 hmv hm2 H locs hP hD hS ls hl
            refine lv_iload hx hb d_M_drop_177 (lv_at hl 3 rfl) ?_
            refine lv_aload_n hx hb d_M_drop_179 rfl (lv_at hl 0 rfl) ?_
            refine gf_M_33 (v := .int (nI (kp + 1))) hB hP 0 rfl rfl d_M_drop_180 ?_
            refine n_icmp_ge hx hb (by omega) (by omega) (tgt := 202) d_M_drop_183 (by decide) (fun hc183 => ?_) (fun hc183 => ?_)
            · skip
              refine lv_aload_n hx hb d_M_drop_202 rfl (lv_at hl 0 rfl) ?_
              refine lv_aload_n hx hb d_M_drop_203 rfl (lv_at hl 0 rfl) ?_
              refine gf_M_33 (v := .int (nI (kp + 1))) hB hP 0 rfl rfl d_M_drop_204 ?_
              refine lv_iload_n hx hb d_M_drop_207 rfl (lv_at hl 2 rfl) ?_
              refine n_sub hx hb (by omega) d_M_drop_208 ?_
              refine pf_M_33 hB hP hD hS 0 rfl (Nat.le_of_ble_eq_true rfl) d_M_drop_209 (fun H locs hP hD hS => ?_)
              have hP : va_P D classes (mW cs bd td ((kp + 1) - f) nx (wh + 1) of (-1) T Rc2 Sz2 Nm2 By2 R) H := hP
              have hD : va_D A (mW cs bd td ((kp + 1) - f) nx (wh + 1) of (-1) T Rc2 Sz2 Nm2 By2 R) := hD
              refine lv_iload_n hx hb d_M_drop_212 rfl (lv_at hl 1 rfl) ?_
              exact r_iQ hB hr0 hlk hP hD hS ⟨f, Rc2, Sz2, Nm2, By2, rfl, hf0, hf1, hf2, rfl, by rw [show kp + 1 - f = i by omega]; exact hmv⟩ d_M_drop_213
            · skip
              refine lv_aload_n hx hb d_M_drop_186 rfl (lv_at hl 0 rfl) ?_
              refine lv_iload hx hb d_M_drop_187 (lv_at hl 3 rfl) ?_
              refine lv_iload hx hb d_M_drop_189 (lv_at hl 3 rfl) ?_
              refine lv_iload_n hx hb d_M_drop_191 rfl (lv_at hl 2 rfl) ?_
              refine n_sub hx hb (by omega) d_M_drop_192 ?_
              refine tp_i (y := nI i) (congrArg nI (by omega)) ?_
              refine x_cQv (As := [.int (nI (f + i)), .int (nI i)]) (rest := []) (n := 2) hB (c_M_move l (a := f + i) (b := i) (w := va_up sN kp 0 (f + i)) (by omega) (by omega) (hs1 _) (by rw [(hmv.2 (f + i) (by omega)).2.1]; exact hz1 _ (by omega)) (by rw [(hmv.2 (f + i) (by omega)).1]; exact hbo1 _ (by omega))) gi_M_61 (by decide +kernel) rfl rfl ⟨Nat.le_of_ble_eq_true rfl, Nat.le_of_ble_eq_true rfl⟩ hP hD hS 0 rfl rfl hl.1 rfl (Nat.le_of_ble_eq_true rfl) d_M_drop_193 ⟨Nat.le_of_ble_eq_true rfl, Nat.le_of_ble_eq_true rfl⟩ (fun w H locs hw hP hD hS => ?_)
              obtain ⟨Y1, rfl, hy1, hy2⟩ := hw
              refine n_inc (d := 1) (k := 3) (lv' := [(4, .int (nI ((f + i) + 1))), (0, .ref (bd 0)), (2, .int (nI (mn (qR Rc) 0 kp - j))), (3, .int (nI f))]) hx hb d_M_drop_196 (by decide) hl rfl (by decide) rfl (fun ls hl => ?_)
              refine lv_goto (tgt := 177) hx hb d_M_drop_199 (by decide) ?_
              exact ih (i + 1) _ _ _ _ (by omega) (mvd_s hmv hs1 hy1 hy2) (by omega) _ _ hP hD hS ls (lv_sub hl [1, 2, 3, 0] rfl)
        exact loop2 (kp + 2) 0 Rc1 Sz1 Nm By (by omega) mvd_0 (by omega) _ _ hP hD hS ls (lv_sub hl [1, 3, 4, 0] rfl)
      · skip
        rw [nI_pred] at hl
        refine lv_iload hx hb d_M_drop_104 (lv_at hl 4 rfl) ?_
        refine n_if_lt hx hb (by omega) (tgt := 174) d_M_drop_106 (by decide) ?_
        refine lv_iconst (v := nI 0) hx hb d_M_drop_109 (by decide) ?_
        refine lv_istore (lv' := [(5, .int (nI 0)), (0, .ref (bd 0)), (1, .int (nI j)), (2, .int (nI (mn (qR Rc) 0 kp - j))), (3, .int (nI f)), (4, .int (nI u))]) hx hb d_M_drop_110 hl (by decide) rfl (fun ls hl => ?_)
        refine lv_iconst (v := nI 0) hx hb d_M_drop_112 (by decide) ?_
        refine lv_istore (lv' := [(6, .int (nI 0)), (5, .int (nI 0)), (0, .ref (bd 0)), (1, .int (nI j)), (2, .int (nI (mn (qR Rc) 0 kp - j))), (3, .int (nI f)), (4, .int (nI u))]) hx hb d_M_drop_113 hl (by decide) rfl (fun ls hl => ?_)
        have hmu := fun k => mn_le (qR Rc1) 0 k
        have inner : ∀ (n2 : Nat) (i : Nat), (i ≤ u) → (u + 1 ≤ i + n2) → ∀ (H : Heap) (locs : List Loc), va_P D classes (mW cs bd td (kp + 1) nx (wh + 1) of (-1) T Rc1 Sz1 Nm By R) H → va_D A (mW cs bd td (kp + 1) nx (wh + 1) of (-1) T Rc1 Sz1 Nm By R) → va_S A s.heap H locs → ∀ ls : Array Slot, lv_has ls 7 [(0, .ref (bd 0)), (1, .int (nI j)), (2, .int (nI (mn (qR Rc) 0 kp - j))), (3, .int (nI f)), (4, .int (nI u)), (5, .int (nI (mn (qR Rc1) 0 i))), (6, .int (nI i))] → W p l e (rmn 2) s m ([.ref (bd 0), .int (nI j)] : List Value).toArray below meth c H locs 0 0 (MQ below (QI D A (fun r z => ∃ (f : Nat) (Rc2 Sz2 Nm2 By2 : Nat → Int32), r = nI (mn (qR Rc) 0 kp - j) ∧ f ≤ kp ∧ (f = kp ∨ (¬ Rc1 f = 0 ∧ j ≤ mn (qR Rc1) 0 f)) ∧ (∀ k, k < f → ¬ Rc1 k = 0 → ¬ j ≤ mn (qR Rc1) 0 k) ∧ z = mW cs bd td (kp + 1 - f) nx (wh + 1) of (-1) T Rc2 Sz2 Nm2 By2 R ∧ mvd f (kp + 1 - f) (va_up sN kp 0) Rc1 Sz1 Nm By Rc2 Sz2 Nm2 By2)) ([.ref (bd 0), .int (nI j)] : List Value).toArray s 0 0 A) (F0 m 115 ls []) := by
          intro n2
          induction n2 with
          | zero => intro i hi0 hm2; exfalso; omega
          | succ n2 ih2 =>
            intro i hi0 hm2 H locs hP hD hS ls hl
            have hmi := hmu i
            refine lv_iload hx hb d_M_drop_115 (lv_at hl 6 rfl) ?_
            refine lv_iload hx hb d_M_drop_117 (lv_at hl 4 rfl) ?_
            refine n_icmp_ge hx hb (by omega) (by omega) (tgt := 149) d_M_drop_119 (by decide) (fun hc119 => ?_) (fun hc119 => ?_)
            · skip
              have hiu : i = u := by omega
              refine lv_aload_n hx hb d_M_drop_149 rfl (lv_at hl 0 rfl) ?_
              refine gf_M_13 (v := .ref (bd 2)) hB hP 0 rfl rfl d_M_drop_150 ?_
              refine lv_iload hx hb d_M_drop_153 (lv_at hl 4 rfl) ?_
              refine n_zald hx hb hK hP 2 1 rfl rfl (by omega) (by decide) d_M_drop_155 ?_
              refine lv_if_eq (tgt := 168) hx hb d_M_drop_156 (by decide) (fun hc156 => ?_) (fun hc156 => ?_)
              · skip
                refine lv_iinc (k := 4) (v := nI u - 1) (lv' := [(4, .int (nI u - 1)), (0, .ref (bd 0)), (1, .int (nI j)), (2, .int (nI (mn (qR Rc) 0 kp - j))), (3, .int (nI f)), (5, .int (nI (mn (qR Rc1) 0 i))), (6, .int (nI i))]) hx hb d_M_drop_168 hl rfl (dec_eq _) (by decide) rfl (fun ls hl => ?_)
                refine lv_goto (tgt := 104) hx hb d_M_drop_171 (by decide) ?_
                exact ih u f (by omega) hf0 (fun k h1 h2 h3 => by
                    by_cases e : k = u
                    · subst e; exact absurd hc156 h3.1
                    · exact hf2 k (by omega) h2 h3) (hf1.imp id (fun q => ⟨by omega, q.2⟩)) (by omega) _ _ hP hD hS ls (lv_sub hl [1, 2, 3, 4, 0] rfl)
              · skip
                have hukp : u < kp := by
                  rcases Nat.lt_or_ge u kp with q | q
                  · exact q
                  · exact absurd hR1k (by rw [show kp = u by omega]; exact hc156)
                refine lv_iload hx hb d_M_drop_159 (lv_at hl 5 rfl) ?_
                refine lv_iload_n hx hb d_M_drop_161 rfl (lv_at hl 1 rfl) ?_
                refine n_icmp_lt hx hb (by omega) (by omega) (tgt := 168) d_M_drop_162 (by decide) (fun hc162 => ?_) (fun hc162 => ?_)
                · skip
                  refine lv_iinc (k := 4) (v := nI u - 1) (lv' := [(4, .int (nI u - 1)), (0, .ref (bd 0)), (1, .int (nI j)), (2, .int (nI (mn (qR Rc) 0 kp - j))), (3, .int (nI f)), (5, .int (nI (mn (qR Rc1) 0 i))), (6, .int (nI i))]) hx hb d_M_drop_168 hl rfl (dec_eq _) (by decide) rfl (fun ls hl => ?_)
                  refine lv_goto (tgt := 104) hx hb d_M_drop_171 (by decide) ?_
                  exact ih u f (by omega) hf0 (fun k h1 h2 h3 => by
                      by_cases e : k = u
                      · subst e; exact absurd h3.2 (by rw [← hiu]; omega)
                      · exact hf2 k (by omega) h2 h3) (hf1.imp id (fun q => ⟨by omega, q.2⟩)) (by omega) _ _ hP hD hS ls (lv_sub hl [1, 2, 3, 4, 0] rfl)
                · skip
                  refine lv_iload hx hb d_M_drop_165 (lv_at hl 4 rfl) ?_
                  refine lv_istore_n (lv' := [(3, .int (nI u)), (0, .ref (bd 0)), (1, .int (nI j)), (2, .int (nI (mn (qR Rc) 0 kp - j))), (4, .int (nI u)), (5, .int (nI (mn (qR Rc1) 0 i))), (6, .int (nI i))]) hx hb d_M_drop_167 rfl hl (by decide) rfl (fun ls hl => ?_)
                  refine lv_iinc (k := 4) (v := nI u - 1) (lv' := [(4, .int (nI u - 1)), (3, .int (nI u)), (0, .ref (bd 0)), (1, .int (nI j)), (2, .int (nI (mn (qR Rc) 0 kp - j))), (5, .int (nI (mn (qR Rc1) 0 i))), (6, .int (nI i))]) hx hb d_M_drop_168 hl rfl (dec_eq _) (by decide) rfl (fun ls hl => ?_)
                  refine lv_goto (tgt := 104) hx hb d_M_drop_171 (by decide) ?_
                  exact ih u u (by omega) (by omega) (fun k h1 h2 h3 => by omega) (Or.inr ⟨by omega, hukp, hc156, by rw [← hiu]; exact hc162⟩) (by omega) _ _ hP hD hS ls (lv_sub hl [2, 3, 4, 1, 0] rfl)
            · skip
              refine lv_aload_n hx hb d_M_drop_122 rfl (lv_at hl 0 rfl) ?_
              refine gf_M_13 (v := .ref (bd 2)) hB hP 0 rfl rfl d_M_drop_123 ?_
              refine lv_iload hx hb d_M_drop_126 (lv_at hl 6 rfl) ?_
              refine n_zald hx hb hK hP 2 1 rfl rfl (by omega) (by decide) d_M_drop_128 ?_
              refine lv_if_eq (tgt := 139) hx hb d_M_drop_129 (by decide) (fun hc129 => ?_) (fun hc129 => ?_)
              · skip
                refine lv_iload hx hb d_M_drop_139 (lv_at hl 5 rfl) ?_
                refine tp_i (y := nI (mn (qR Rc1) 0 (i + 1))) (congrArg nI (by rw [mn_0, if_pos (qR_t hc129), Nat.add_zero])) ?_
                refine lv_istore (lv' := [(5, .int (nI (mn (qR Rc1) 0 (i + 1)))), (0, .ref (bd 0)), (1, .int (nI j)), (2, .int (nI (mn (qR Rc) 0 kp - j))), (3, .int (nI f)), (4, .int (nI u)), (6, .int (nI i))]) hx hb d_M_drop_141 hl (by decide) rfl (fun ls hl => ?_)
                refine n_inc (d := 1) (k := 6) (lv' := [(6, .int (nI (i + 1))), (5, .int (nI (mn (qR Rc1) 0 (i + 1)))), (0, .ref (bd 0)), (1, .int (nI j)), (2, .int (nI (mn (qR Rc) 0 kp - j))), (3, .int (nI f)), (4, .int (nI u))]) hx hb d_M_drop_143 (by decide) hl rfl (by decide) rfl (fun ls hl => ?_)
                refine lv_goto (tgt := 115) hx hb d_M_drop_146 (by decide) ?_
                exact ih2 (i + 1) (by omega) (by omega) _ _ hP hD hS ls (lv_sub hl [2, 3, 4, 5, 6, 1, 0] rfl)
              · skip
                refine lv_iload hx hb d_M_drop_132 (lv_at hl 5 rfl) ?_
                refine lv_iconst (v := nI 1) hx hb d_M_drop_134 (by decide) ?_
                refine n_add hx hb d_M_drop_135 ?_
                refine lv_goto (tgt := 141) hx hb d_M_drop_136 (by decide) ?_
                refine tp_i (y := nI (mn (qR Rc1) 0 (i + 1))) (congrArg nI (by rw [mn_0, if_neg (qR_f hc129)])) ?_
                refine lv_istore (lv' := [(5, .int (nI (mn (qR Rc1) 0 (i + 1)))), (0, .ref (bd 0)), (1, .int (nI j)), (2, .int (nI (mn (qR Rc) 0 kp - j))), (3, .int (nI f)), (4, .int (nI u)), (6, .int (nI i))]) hx hb d_M_drop_141 hl (by decide) rfl (fun ls hl => ?_)
                refine n_inc (d := 1) (k := 6) (lv' := [(6, .int (nI (i + 1))), (5, .int (nI (mn (qR Rc1) 0 (i + 1)))), (0, .ref (bd 0)), (1, .int (nI j)), (2, .int (nI (mn (qR Rc) 0 kp - j))), (3, .int (nI f)), (4, .int (nI u))]) hx hb d_M_drop_143 (by decide) hl rfl (by decide) rfl (fun ls hl => ?_)
                refine lv_goto (tgt := 115) hx hb d_M_drop_146 (by decide) ?_
                exact ih2 (i + 1) (by omega) (by omega) _ _ hP hD hS ls (lv_sub hl [2, 3, 4, 5, 6, 1, 0] rfl)
        exact inner (u + 1) 0 (by omega) (by omega) _ _ hP hD hS ls (lv_sub hl [2, 3, 4, 5, 6, 1, 0] rfl)
  skip
  exact loop (kp + 2) (kp + 1) kp (by omega) (by omega) (fun k h1 h2 _ => by omega) (Or.inl rfl) (by omega) _ _ hP hD hS ls (lv_sub hl [3, 4, 2, 1, 0] rfl)
end
section
/-! making objects: rows, permuted worlds, the four constructors -/
def StA (D : va_G) (cs : Nat → ClassId) (A : Nat → Prop) (ws : va_W) (U : State) : Prop := St D cs A ws U ∧ ∀ q : Nat, U.heap.size ≤ q → A q
theorem StA.blind {D : va_G} {cs : Nat → ClassId} {A : Nat → Prop} {ws : va_W} {av : List Value} : FrameBlind (va_Pc av (StA D cs A ws)) := by
  intro a U g mk q
  obtain ⟨q0, ⟨qP, qK, qD⟩, qA⟩ := q
  exact ⟨q0, ⟨qP, ⟨va_K.moved (u := U) (U := U.calling g mk a) (Vm.Alike.refl U.vm) qK.1, KN.same (u := U) (U := U.calling g mk a) rfl qK.2⟩, qD⟩, qA⟩
theorem x_startA {l : Launch} {y : MethodName} {cc : ByteArray} {maxL : Nat} {ret : Option FieldType} {rm : Room} {av : List Value} {Qc : Array Value → State → Outcome → State → Prop} {mc ms : Nat} {free : Addr → Prop} {D : va_G} {cs : Nat → ClassId} {A : Nat → Prop} {ws : va_W} (hy : plainName y.cls = true) (hlen : (lg_sl av).length ≤ maxL)
    (body : ∀ (p : Program) (e : Env) (s : State) (m : MethodId) (below : List Frame) (meth : Method) (c : Code), Bd p s m av.toArray c cc y.cls maxL D cs → meth.sig.returnType = ret → meth.locks = false → meth.name = y.name → va_P D classes ws s.heap → va_D A ws → (∀ q : Nat, s.heap.size ≤ q → A q) → ∀ ls : Array Slot, lv_has ls maxL (lv_args 0 av) → W p l e rm s m av.toArray below meth c s.heap [] 0 0 (MQ below Qc av.toArray s mc ms free) (F0 m 0 ls [])) :
    Met l y (Cond.code y cc maxL ret :: gw) rm (va_Pc av (StA D cs A ws)) Qc mc ms free := by
  refine Met.ofW (cc := cc) (maxL := maxL) (ret := ret) hy rfl ?_
  intro p e s m args below meth c s₁ B hml hv
  obtain ⟨rfl, ⟨hP, hK, hD⟩, hA⟩ := hv
  have hts := atoms_spec (ws := Cond.code y cc maxL ret :: gw) B.pre
  have hl := lv_entry av (n := maxL) hlen
  rw [lg_entry_eq]
  generalize (lg_sl av ++ List.replicate (maxL - (lg_sl av).length) Slot.unset).toArray = ls at hl ⊢
  exact body p e s m below meth c ⟨B.exec, B.bytes, hml, findClass_of_methodNamed B.named, fun w hw => hts w (List.mem_cons_of_mem _ hw), hK.1, hK.2⟩ B.returns B.notSynchronized (name_of_methodNamed B.named B.method).1 hP hD hA ls hl
/-- worlds in another order -/
theorem pm_P {D : va_G} {cl : List vw_C} {ws ws' : va_W} {H : Heap} (h : ws.Perm ws') (hP : va_P D cl ws H) : va_P D cl ws' H := by
  intro k q hk
  obtain ⟨i, hi⟩ := List.getElem?_of_mem (h.mem_iff.mpr (List.mem_of_getElem? hk))
  exact hP i q hi
theorem va_D_iff {A : Nat → Prop} {ws : va_W} : va_D A ws ↔ (ws.map (fun q => q.1)).Nodup ∧ ∀ q ∈ ws, A q.1 := by
  constructor
  · intro h
    refine ⟨?_, fun q hq => ?_⟩
    · refine List.pairwise_iff_getElem.mpr (fun i j hi hj hij e => ?_)
      rw [List.getElem_map, List.getElem_map] at e
      have hj' : j < ws.length := by simpa using hj
      have hi' : i < ws.length := by omega
      have := h.1 i j _ _ (List.getElem?_eq_getElem hi') (List.getElem?_eq_getElem hj') e
      omega
    · obtain ⟨i, hi⟩ := List.getElem?_of_mem hq
      exact h.2 i q hi
  · intro h
    refine ⟨fun i j x y hi hj e => ?_, fun k q hk => h.2 q (List.mem_of_getElem? hk)⟩
    have hn := List.pairwise_iff_getElem.mp h.1
    have h1 : (ws.map (fun q => q.1))[i]? = some x.1 := by rw [List.getElem?_map, hi]; rfl
    have h2 : (ws.map (fun q => q.1))[j]? = some y.1 := by rw [List.getElem?_map, hj]; rfl
    obtain ⟨li, e1⟩ := List.getElem?_eq_some_iff.mp h1
    obtain ⟨lj, e2⟩ := List.getElem?_eq_some_iff.mp h2
    rcases Nat.lt_trichotomy i j with q | q | q
    · exact absurd (by rw [e1, e2, e]) (hn i j li lj q)
    · exact q
    · exact absurd (by rw [e1, e2, e]) (hn j i lj li q)
theorem pm_D {A : Nat → Prop} {ws ws' : va_W} (h : ws.Perm ws') (hD : va_D A ws) : va_D A ws' := by
  have h1 := va_D_iff.mp hD
  exact va_D_iff.mpr ⟨(h.map _).nodup_iff.mp h1.1, fun q hq => h1.2 q (h.mem_iff.mpr hq)⟩
section XMK
variable {p : Program} {l : Launch} {e : Env} {R : Room} {s : State} {m : MethodId} {args : Array Value} {below : List Frame} {meth : Method} {c : Code} {H : Heap} {locs : List Loc} {cells slots : Nat} {Q : State → Prop}
variable {cc : ByteArray} {pc : Nat} {ls : Array Slot} {rest : List Value} {own : String} {nL : Nat} {D : va_G} {cs : Nat → ClassId} {A : Nat → Prop} {a : Nat} {ws : va_W} {H0 : Heap}
theorem x_newa (hB : Bd p s m args c cc own nL D cs) {atype : ArrayType} {ty : FieldType} (nm : String) (hRA : ∀ d, va_RA s d ty → s.vm.findClass nm = some d) {t0 : Nat} {cA0 : ClassId} (ht : (tyc cs)[t0]? = some (cA0, ty)) (hac : Cond.arrayClass (newarray.typeOf atype) ∈ gw) (hty : newarray.typeOf atype = ty) (hP : va_P D classes ws H) (hD : va_D A ws) (hS : va_S A H0 H locs) (hA : ∀ q, H0.size ≤ q → A q) {N' : Nat} (ha : ∀ cA : ClassId, vp_cell cA (N', .inl (fun _ => 0)) = arrV cA N' (fun _ => defaultValue ty)) (hN2 : N' < 2 ^ 31) (hbytes : N' * componentBytes ty ≤ 536870912) (hcells : cells + 1 ≤ R.cells) (hslots : slots + N' ≤ R.slots) (hdg : decode cc pc = .ok (.newarray atype, 2))
    (kk : ∀ (q : Nat) (H1 : Heap), va_P D classes (ws ++ [(q, .inl (cA0, N', .inl (fun _ => 0)))]) H1 → va_D A (ws ++ [(q, .inl (cA0, N', .inl (fun _ => 0)))]) → va_S A H0 H1 locs → W p l e R s m args below meth c H1 locs (cells + 1) (slots + N') Q (F0 m (pc + 2) ls (.ref q :: rest))) : W p l e R s m args below meth c H locs cells slots Q (F0 m pc ls (.int (nI N') :: rest)) := by
  obtain ⟨hx, hb, hml, hown, hts, hK, hN⟩ := hB
  refine va_newa (a0 := (N', .inl (fun _ => 0))) hx hb (hts _ hac) hty hK hP hD hS hA ha (nI_pos hN2) (nI_clamp hN2) hbytes hcells hslots hdg (fun q cA H1 hK1 hP1 hD1 hS1 => ?_)
  have e1 := hRA cA (hK1.2 4 _ rfl).2
  have e2 := hRA cA0 (hK.2 t0 _ ht).2
  have e : cA = cA0 := Option.some.inj (e1.symm.trans e2)
  subst e
  exact kk q H1 hP1 hD1 hS1
theorem x_newq (hB : Bd p s m args c cc own nL D cs) {index : Nat} (hcl : Cond.classLink own index "JournalDesk$Entry" ∈ gw) (hP : va_P D classes ws H) (hD : va_D A ws) (hS : va_S A H0 H locs) (hA : ∀ q, H0.size ≤ q → A q) {N' : Nat} (hN2 : N' < 2 ^ 31) (hbytes : N' * 4 ≤ 536870912) (hcells : cells + 1 ≤ R.cells) (hslots : slots + N' ≤ R.slots) (hdg : decode cc pc = .ok (.anewarray index, 3))
    (kk : ∀ (q : Nat) (H1 : Heap), va_P D classes (ws ++ [(q, .inl (cs 2, N', .inr (.inr (.inr (.inr (fun _ => none))))))]) H1 → va_D A (ws ++ [(q, .inl (cs 2, N', .inr (.inr (.inr (.inr (fun _ => none))))))]) → va_S A H0 H1 locs → W p l e R s m args below meth c H1 locs (cells + 1) (slots + N') Q (F0 m (pc + 3) ls (.ref q :: rest))) : W p l e R s m args below meth c H locs cells slots Q (F0 m pc ls (.int (nI N') :: rest)) := by
  obtain ⟨hx, hb, hml, hown, hts, hK, hN⟩ := hB
  refine va_newq hx hb hown (hts _ hcl) hN.2.2.2.2.2.2 hK hP hD hS hA (nI_pos hN2) (nI_clamp hN2) hbytes hcells hslots hdg (fun q cA H1 hK1 hP1 hD1 hS1 => ?_)
  obtain ⟨-, -, -, -, -, e1⟩ := (hK1.2 4 _ rfl).2
  obtain ⟨-, -, -, -, -, e2⟩ := (hK.2 2 _ rfl).2
  have e : cA = cs 2 := Option.some.inj (e1.symm.trans e2)
  subst e
  exact kk q H1 hP1 hD1 hS1
theorem x_new (hB : Bd p s m args c cc own nL D cs) {C : String} {T : u_T} {N ci index : Nat} {fs : List Value} (hin : ∀ w ∈ u_ws C T N, w ∈ gw) (ty0 : Nat → FieldType) (hty : ∀ k, k < N → parseFieldDescriptor (T k).2.2.1 = some (ty0 k)) (hc : classes[ci]? = some (C, T, N)) (hcl : Cond.classLink own index C ∈ gw) (hinst : Cond.instantiable C N ∈ gw) (hini : Cond.initialized C ∈ gw) (hP : va_P D classes ws H) (hD : va_D A ws) (hS : va_S A H0 H locs) (hA : ∀ q, H0.size ≤ q → A q) (hfs : ∀ j, j < N → defaultValue (ty0 j) = vp_V fs j) (hcells : cells + 1 ≤ R.cells) (hslots : slots + N ≤ R.slots) (hdg : decode cc pc = .ok (.new index, 3))
    (kk : ∀ (q : Nat) (H1 : Heap), va_P D classes (ws ++ [(q, .inr (ci, fs))]) H1 → va_D A (ws ++ [(q, .inr (ci, fs))]) → va_S A H0 H1 locs → W p l e R s m args below meth c H1 locs (cells + 1) (slots + N) Q (F0 m (pc + 3) ls (.ref q :: rest))) : W p l e R s m args below meth c H locs cells slots Q (F0 m pc ls rest) := by
  obtain ⟨hx, hb, hml, hown, hts, hK, hN⟩ := hB
  exact va_new hx hb hts hin ty0 hty hown (hts _ hcl) (hts _ hinst) (hts _ hini) hK hP hD hS hA hc hfs hcells hslots hdg kk
theorem x_obj (hB : Bd p s m args c cc own nL D cs) {index : Nat} (hlink : Cond.methodLink own index objectInit ∈ gw) (hl : ls.size = nL) (hfr : 1 ≤ R.frames) (hlo : (rest.map fun v => v.category).sum + 12 ≤ R.locals) (hdg : decode cc pc = .ok (.invokespecial index, 3))
    (kk : W p l e R s m args below meth c H locs cells slots Q (F0 m (pc + 3) ls rest)) : W p l e R s m args below meth c H locs cells slots Q (F0 m pc ls (.ref a :: rest)) := by
  obtain ⟨hx, hb, hml, hown, hts, hK, hN⟩ := hB
  refine W.objInit hx hb hown (hts _ hlink) (hts _ im_O) (hts _ cd_O) rfl (by rw [hml]; exact hl) rfl hdg hfr ?_ kk
  show 2 * 0 + _ + 12 ≤ _
  omega
theorem x_cIN {y : MethodName} {bytes : ByteArray} {maxL mc ms index : Nat} {host : String} {rm : Room} {post : va_W → Prop} {b : Nat} (hB : Bd p s m args c cc own nL D cs) (hM : Met l y (Cond.code y bytes maxL none :: gw) rm (va_Pc [.ref b] (StA D cs A ws)) (QV D A post) mc ms A) (hcd : Cond.code y bytes maxL none ∈ gw) (him : Cond.instanceMethod y ∈ gw) (hini : Cond.initialized y.cls ∈ gw) (hlink : va_Nw (.methodLinkNest own index y host) s)
    (hd : y.cls ≠ "java/lang/invoke/MethodHandle" ∧ y.cls ≠ "java/lang/invoke/VarHandle" ∧ (parseMethodDescriptor y.desc).map (fun d => d.parameters.length) = some 0) (hy : y.name = "<init>") (hrc : rm.cells = mc) (hrs : rm.slots = ms) (hR : rm.frames + 1 ≤ R.frames ∧ 8 + (maxL + 11) + rm.locals ≤ R.locals) (hP : va_P D classes ws H) (hD : va_D A ws) (hS : va_S A H0 H locs) (hA : ∀ q, H.size ≤ q → A q) (hl : ls.size = nL) (hW : (rest.map fun v => v.category).sum ≤ 8) (hdg : decode cc pc = .ok (.invokespecial index, 3)) (hf : cells + mc ≤ R.cells ∧ slots + ms ≤ R.slots)
    (kk : ∀ (w : va_W) (H1 : Heap) (locs1 : List Loc), post w → va_P D classes w H1 → va_D A w → va_S A H0 H1 locs1 → W p l e R s m args below meth c H1 locs1 (cells + mc) (slots + ms) Q (F0 m (pc + 3) ls rest)) : W p l e R s m args below meth c H locs cells slots Q (F0 m pc ls (.ref b :: rest)) := by
  obtain ⟨hx, hb, hml, hown, hts, hK, hN⟩ := hB
  refine va_callv (va_runIN (As := []) (rest := rest) ⟨hx, hb, hml, hown, hts⟩ hM ⟨va_cnB 0 hts (gc_of hcd) rfl hrc hrs hlink (hts _ hini) hd hR, hy, hts _ him⟩ ⟨StA.blind, fun U hU hW => ⟨rfl, ⟨by rw [hU]; exact hP, ⟨va_K.moved hW.alike hK, KN.warm hW hN⟩, hD⟩, by rw [hU]; exact hA⟩⟩ rfl rfl hl rfl (lv_room hW) hdg hf) hS (fun _ _ h => h) (fun _ h => h) (fun w t H1 locs1 ht _ hp hb _ _ hS1 => kk w H1 locs1 hp (by rw [← ht]; exact hb.1) hb.2 hS1)
theorem x_cI {y : MethodName} {bytes : ByteArray} {maxL mc ms index : Nat} {rm : Room} {post : va_W → Prop} {b : Nat} (hB : Bd p s m args c cc own nL D cs) (hM : Met l y (Cond.code y bytes maxL none :: gw) rm (va_Pc [.ref b] (StA D cs A ws)) (QV D A post) mc ms A) (hcd : Cond.code y bytes maxL none ∈ gw) (him : Cond.instanceMethod y ∈ gw) (hini : Cond.initialized y.cls ∈ gw) (hlink : Cond.methodLink own index y ∈ gw)
    (hd : y.cls ≠ "java/lang/invoke/MethodHandle" ∧ y.cls ≠ "java/lang/invoke/VarHandle" ∧ (parseMethodDescriptor y.desc).map (fun d => d.parameters.length) = some 0) (hy : y.name = "<init>") (hrc : rm.cells = mc) (hrs : rm.slots = ms) (hR : rm.frames + 1 ≤ R.frames ∧ 8 + (maxL + 11) + rm.locals ≤ R.locals) (hP : va_P D classes ws H) (hD : va_D A ws) (hS : va_S A H0 H locs) (hA : ∀ q, H.size ≤ q → A q) (hl : ls.size = nL) (hW : (rest.map fun v => v.category).sum ≤ 8) (hdg : decode cc pc = .ok (.invokespecial index, 3)) (hf : cells + mc ≤ R.cells ∧ slots + ms ≤ R.slots)
    (kk : ∀ (w : va_W) (H1 : Heap) (locs1 : List Loc), post w → va_P D classes w H1 → va_D A w → va_S A H0 H1 locs1 → W p l e R s m args below meth c H1 locs1 (cells + mc) (slots + ms) Q (F0 m (pc + 3) ls rest)) : W p l e R s m args below meth c H locs cells slots Q (F0 m pc ls (.ref b :: rest)) := by
  obtain ⟨hx, hb, hml, hown, hts, hK, hN⟩ := hB
  refine va_callv (va_runI (As := []) (rest := rest) ⟨hx, hb, hml, hown, hts⟩ hM (cwI 0 hts (gc_of hcd) rfl hrc hrs (hts _ hini) (hts _ hlink) (hts _ him) hy hd hR) ⟨StA.blind, fun U hU hW => ⟨rfl, ⟨by rw [hU]; exact hP, ⟨va_K.moved hW.alike hK, KN.warm hW hN⟩, hD⟩, by rw [hU]; exact hA⟩⟩ rfl rfl hl rfl (lv_room hW) hdg hf) hS (fun _ _ h => h) (fun _ h => h) (fun w t H1 locs1 ht _ hp hb _ _ hS1 => kk w H1 locs1 hp (by rw [← ht]; exact hb.1) hb.2 hS1)
end XMK
set_option maxHeartbeats 4000000 in
set_option maxRecDepth 100000 in
/-- Entry(): nothing changes -/
theorem c_E_init (l : Launch) {D : va_G} {A : Nat → Prop} {cs : Nat → ClassId} {ws : va_W} {b : Nat} : Met l y_E_init (Cond.code y_E_init b_E_init 1 none :: gw) (rmn 1) (va_Pc [.ref b] (StA D cs A ws)) (QV D A (fun z => z = ws)) 0 0 A := by
  refine x_startA (by decide) (Nat.le_of_ble_eq_true rfl) ?_
  intro p e s m below meth c hB hr hlk hin hP hD hA ls hl
  have hx := hB.1
  have hb := hB.2.1
  have hS : va_S A s.heap s.heap [] := va_S.rf
  have hl : lv_has ls 1 [(0, .ref b)] := hl
  refine lv_aload_n hx hb d_E_init_0 rfl (lv_at hl 0 rfl) ?_
  refine x_obj hB mo_E hl.1 (Nat.le_of_ble_eq_true rfl) (Nat.le_of_ble_eq_true rfl) d_E_init_1 ?_
  exact r_vQ hB hr hlk hP hD hS rfl d_E_init_4
set_option maxHeartbeats 4000000 in
set_option maxRecDepth 100000 in
/-- Disk(): two new arrays -/
theorem c_K_init (l : Launch) {D : va_G} {A : Nat → Prop} {cs : Nat → ClassId} {w0 : Nat × va_E} {b : Nat} : Met l y_K_init (Cond.code y_K_init b_K_init 1 none :: gw) ({ frames := 1, cells := 2, slots := 840, locals := 30 }) (va_Pc [.ref b] (StA D cs A [w0, (b, .inr (1, [.null, .null]))])) (QV D A (fun z => ∃ q1 q2 : Nat, z = [w0, (b, .inr (1, [.ref q1, .ref q2])), (q1, .inl (cs 0, 800, .inl (fun _ => 0))), (q2, .inl (cs 1, 40, .inl (fun _ => 0)))])) 2 840 A := by
  refine x_startA (by decide) (Nat.le_of_ble_eq_true rfl) ?_
  intro p e s m below meth c hB hr hlk hin hP hD hA ls hl
  have hx := hB.1
  have hb := hB.2.1
  have hS : va_S A s.heap s.heap [] := va_S.rf
  have hl : lv_has ls 1 [(0, .ref b)] := hl
  refine lv_aload_n hx hb d_K_init_0 rfl (lv_at hl 0 rfl) ?_
  refine x_obj hB mo_K hl.1 (Nat.le_of_ble_eq_true rfl) (Nat.le_of_ble_eq_true rfl) d_K_init_1 ?_
  refine lv_aload_n hx hb d_K_init_4 rfl (lv_at hl 0 rfl) ?_
  refine lv_sipush (v := nI 800) hx hb d_K_init_5 (by decide) ?_
  refine x_newa (atype := .byte) (ty := .byte) hB "[B" (fun _ h => h) (t0 := 0) rfl ac_byte rfl hP hD hS hA (fun _ => rfl) (by decide) (by decide) (Nat.le_of_ble_eq_true rfl) (Nat.le_of_ble_eq_true rfl) d_K_init_8 (fun q1 H hP hD hS => ?_)
  have hP : va_P D classes [w0, (b, .inr (1, [.null, .null])), (q1, .inl (cs 0, 800, .inl (fun _ => 0)))] H := hP
  have hD : va_D A [w0, (b, .inr (1, [.null, .null])), (q1, .inl (cs 0, 800, .inl (fun _ => 0)))] := hD
  refine pF_K_9 hB hP hD hS hin 1 rfl rfl rfl (Nat.le_of_ble_eq_true rfl) d_K_init_10 (fun H locs hP hD hS => ?_)
  have hP : va_P D classes [w0, (b, .inr (1, [.ref q1, .null])), (q1, .inl (cs 0, 800, .inl (fun _ => 0)))] H := hP
  have hD : va_D A [w0, (b, .inr (1, [.ref q1, .null])), (q1, .inl (cs 0, 800, .inl (fun _ => 0)))] := hD
  refine lv_aload_n hx hb d_K_init_13 rfl (lv_at hl 0 rfl) ?_
  refine lv_bipush (v := nI 40) hx hb d_K_init_14 (by decide) ?_
  refine x_newa (atype := .boolean) (ty := .boolean) hB "[Z" (fun _ h => h) (t0 := 1) rfl ac_boolean rfl hP hD hS hA (fun _ => rfl) (by decide) (by decide) (Nat.le_of_ble_eq_true rfl) (Nat.le_of_ble_eq_true rfl) d_K_init_16 (fun q2 H hP hD hS => ?_)
  have hP : va_P D classes [w0, (b, .inr (1, [.ref q1, .null])), (q1, .inl (cs 0, 800, .inl (fun _ => 0))), (q2, .inl (cs 1, 40, .inl (fun _ => 0)))] H := hP
  have hD : va_D A [w0, (b, .inr (1, [.ref q1, .null])), (q1, .inl (cs 0, 800, .inl (fun _ => 0))), (q2, .inl (cs 1, 40, .inl (fun _ => 0)))] := hD
  refine pF_K_15 hB hP hD hS hin 1 rfl rfl rfl (Nat.le_of_ble_eq_true rfl) d_K_init_18 (fun H locs hP hD hS => ?_)
  have hP : va_P D classes [w0, (b, .inr (1, [.ref q1, .ref q2])), (q1, .inl (cs 0, 800, .inl (fun _ => 0))), (q2, .inl (cs 1, 40, .inl (fun _ => 0)))] H := hP
  have hD : va_D A [w0, (b, .inr (1, [.ref q1, .ref q2])), (q1, .inl (cs 0, 800, .inl (fun _ => 0))), (q2, .inl (cs 1, 40, .inl (fun _ => 0)))] := hD
  exact r_vQ hB hr hlk hP hD hS ⟨q1, q2, rfl⟩ d_K_init_21
end
section
/-! the desk's constructor: its cells come in the order of its world -/
def fnI (ad : Nat → Nat) (i : Nat) : Nat → Option Nat := fun j => if j < i then some (ad (j + 6)) else none
abbrev dL (cs : Nat → ClassId) (ad : Nat → Nat) (i n : Nat) : va_W := (ad 0, .inr (0, [.ref (ad 1), .ref (ad 4), .int (nI 0), .int (-1), .int (nI 1), .ref (ad 5), .int (nI 0), .int (nI 0), .int (nI 0), .int 0])) :: (ad 1, .inr (1, [.ref (ad 2), .ref (ad 3)])) :: (ad 2, .inl (cs 0, 800, .inl (fun _ => 0))) :: (ad 3, .inl (cs 1, 40, .inl (fun _ => 0))) :: (ad 4, .inl (cs 0, 100, .inl (fun _ => 0))) :: (ad 5, .inl (cs 2, 520, .inr (.inr (.inr (.inr (fnI ad i)))))) :: epl ad (fun _ => 0) (fun _ => 0) (fun _ => 0) n
theorem fn_0 {ad : Nat → Nat} : fnI ad 0 = fun _ => none := by
  funext j
  exact if_neg (Nat.not_lt_zero j)
theorem fn_s {ad : Nat → Nat} {i : Nat} : va_up (fnI ad i) i (some (ad (i + 6))) = fnI ad (i + 1) := by
  funext j
  by_cases h : j = i
  · subst h
    rw [va_up_self]
    exact (if_pos (Nat.lt_succ_self j)).symm
  · rw [va_up_ne _ _ h]
    unfold fnI
    by_cases q : j < i
    · rw [if_pos q, if_pos (by omega)]
    · rw [if_neg q, if_neg (by omega)]
theorem dL_new (cs : Nat → ClassId) (ad : Nat → Nat) (i q : Nat) : ∃ a1 : Nat → Nat, a1 (i + 6) = q ∧ a1 0 = ad 0 ∧ dL cs ad i i ++ [(q, .inr (2, [.int (nI 0), .int (nI 0), .int 0]))] = dL cs a1 i (i + 1) := by
  refine ⟨va_up ad (i + 6) q, va_up_self _ _ _, va_up_ne _ _ (by omega), ?_⟩
  have h : ∀ k, k < i + 6 → va_up ad (i + 6) q k = ad k := fun k hk => va_up_ne _ _ (by omega)
  have hf : fnI (va_up ad (i + 6) q) i = fnI ad i := by
    funext j
    unfold fnI
    by_cases hj : j < i
    · rw [if_pos hj, if_pos hj, h _ (by omega)]
    · rw [if_neg hj, if_neg hj]
  have he : epl (va_up ad (i + 6) q) (fun _ => 0) (fun _ => 0) (fun _ => 0) (i + 1) = epl ad (fun _ => 0) (fun _ => 0) (fun _ => 0) i ++ [(q, .inr (2, [.int (nI 0), .int (nI 0), .int 0]))] := by
    unfold epl
    rw [List.range_succ, List.map_append]
    congr 1
    · apply List.map_congr_left
      intro k hk
      have := List.mem_range.mp hk
      rw [h _ (by omega)]
    · simp [va_up_self]
  unfold dL
  rw [hf, he, h 0 (by omega), h 1 (by omega), h 2 (by omega), h 3 (by omega), h 4 (by omega), h 5 (by omega)]
  rfl
theorem dL_get {cs : Nat → ClassId} {ad : Nat → Nat} {i n : Nat} (h : i < n) {i0 : Nat} : (dL cs ad i0 n)[i + 6]? = some (ad (i + 6), .inr (2, [.int (nI 0), .int (nI 0), .int 0])) := by
  simp only [dL, List.getElem?_cons_succ]
  exact epl_get h
theorem arr_endN {ct : ClassId} {f : Nat → Nat} {n : Nat} : arrV ct n (fun j => va_rf (fnI f n j)) = arrV ct n (fun j => va_rf (some (f (j + 6)))) := by
  have h : (fun j : Fin n => va_rf (fnI f n j.val)) = fun j : Fin n => va_rf (some (f (j.val + 6))) := by
    funext j
    unfold fnI
    rw [if_pos j.isLt]
  exact congrArg (fun g : Fin n → Value => ({ cls := ct, slots := Array.ofFn g, vm := .none } : Cell)) h
theorem arr_end {ct : ClassId} {f : Nat → Nat} : vp_cell ct (520, .inr (.inr (.inr (.inr (fnI f 520))))) = vp_cell ct (520, .inr (.inr (.inr (.inr (fun j => some (f (j + 6))))))) := by
  rw [vp_cell_q, vp_cell_q]
  exact arr_endN
theorem dL_end {D : va_G} {cs : Nat → ClassId} {ad : Nat → Nat} {H : Heap} (h : va_P D classes (dL cs ad 520 520) H) : va_P D classes (dW cs ad 0 (-1) (nI 1) 0 0 0 0 (fun _ => 0) (fun _ => 0) (fun _ => 0) (fun _ => 0) (fun _ => 0) (fun _ => 0) []) H := by
  intro k q hk
  rcases k with _ | _ | _ | _ | _ | _ | k
  · exact h 0 q hk
  · exact h 1 q hk
  · exact h 2 q hk
  · exact h 3 q hk
  · exact h 4 q hk
  · have h5 : H[ad 5]? = some (vp_cell (cs 2) (520, .inr (.inr (.inr (.inr (fnI ad 520)))))) := h 5 _ rfl
    have e : (ad 5, .inl (cs 2, 520, .inr (.inr (.inr (.inr (fun j => some (ad (j + 6)))))))) = q := Option.some.inj hk
    subst e
    show H[ad 5]? = some (vp_cell _ _)
    rw [← arr_end]
    exact h5
  · refine h (k + 6) q ?_
    simp only [List.getElem?_cons_succ] at hk ⊢
    rw [List.append_nil] at hk
    exact hk
theorem dL_endD {A : Nat → Prop} {cs : Nat → ClassId} {ad : Nat → Nat} (h : va_D A (dL cs ad 520 520)) : va_D A (dW cs ad 0 (-1) (nI 1) 0 0 0 0 (fun _ => 0) (fun _ => 0) (fun _ => 0) (fun _ => 0) (fun _ => 0) (fun _ => 0) []) := by
  have h1 := va_D_iff.mp h
  have e : ((dW cs ad 0 (-1) (nI 1) 0 0 0 0 (fun _ => 0) (fun _ => 0) (fun _ => 0) (fun _ => 0) (fun _ => 0) (fun _ => 0) []).map (fun q => q.1)) = (dL cs ad 520 520).map (fun q => q.1) := by
    simp only [List.map_cons, List.append_nil]
  refine va_D_iff.mpr ⟨by rw [e]; exact h1.1, fun q hq => ?_⟩
  have : q.1 ∈ (dL cs ad 520 520).map (fun q => q.1) := by rw [← e]; exact List.mem_map.mpr ⟨q, hq, rfl⟩
  obtain ⟨q2, h2, h3⟩ := List.mem_map.mp this
  rw [← h3]
  exact h1.2 q2 h2
set_option maxHeartbeats 4000000 in
set_option maxRecDepth 100000 in
/-- JournalDesk(): all its cells -/
theorem c_D_init (l : Launch) {D : va_G} {A : Nat → Prop} {cs : Nat → ClassId} {b : Nat} : Met l y_D_init (Cond.code y_D_init b_D_init 2 none :: gw) ({ frames := 2, cells := 525, slots := 3022, locals := 60 }) (va_Pc [.ref b] (StA D cs A [(b, .inr (0, [.null, .null, .int (nI 0), .int 0, .int 0, .null, .int (nI 0), .int (nI 0), .int (nI 0), .int 0]))])) (QV D A (fun z => ∃ ad : Nat → Nat, ad 0 = b ∧ z = dW cs ad 0 (-1) (nI 1) 0 0 0 0 (fun _ => 0) (fun _ => 0) (fun _ => 0) (fun _ => 0) (fun _ => 0) (fun _ => 0) [])) 525 3022 A := by
  refine x_startA (by decide) (Nat.le_of_ble_eq_true rfl) ?_
  intro p e s m below meth c hB hr hlk hin hP hD hA ls hl
  have hx := hB.1
  have hb := hB.2.1
  have hK := hB.2.2.2.2.2.1
  have hN := hB.2.2.2.2.2.2
  have hS : va_S A s.heap s.heap [] := va_S.rf
  have hl : lv_has ls 2 [(0, .ref b)] := hl
  refine lv_aload_n hx hb d_D_init_0 rfl (lv_at hl 0 rfl) ?_
  refine x_obj hB mo_D hl.1 (Nat.le_of_ble_eq_true rfl) (Nat.le_of_ble_eq_true rfl) d_D_init_1 ?_
  refine lv_aload_n hx hb d_D_init_4 rfl (lv_at hl 0 rfl) ?_
  refine x_new (C := "JournalDesk$Disk") (T := F_K) (N := 2) (ci := 1) (fs := [.null, .null]) hB in_K t_K t_K_ok rfl kl_D_7 is_K it_K hP hD hS hA (fun j hj => by rcases (show j = 0 ∨ j = 1 by omega) with rfl | rfl <;> rfl) (Nat.le_of_ble_eq_true rfl) (Nat.le_of_ble_eq_true rfl) d_D_init_5 (fun q1 H hP hD hS => ?_)
  have hP : va_P D classes [(b, .inr (0, [.null, .null, .int (nI 0), .int 0, .int 0, .null, .int (nI 0), .int (nI 0), .int (nI 0), .int 0])), (q1, .inr (1, [.null, .null]))] H := hP
  have hD : va_D A [(b, .inr (0, [.null, .null, .int (nI 0), .int 0, .int 0, .null, .int (nI 0), .int (nI 0), .int (nI 0), .int 0])), (q1, .inr (1, [.null, .null]))] := hD
  refine lv_dup hx hb d_D_init_8 rfl ?_
  refine x_cIN (host := "JournalDesk") (rest := [.ref q1, .ref b]) hB (c_K_init l) cd_K_init im_K_init it_K hN.1 (by decide +kernel) rfl rfl rfl ⟨(Nat.le_of_ble_eq_true rfl), (Nat.le_of_ble_eq_true rfl)⟩ hP hD hS (fun q h => hA q (Nat.le_trans hS.1 h)) hl.1 (Nat.le_of_ble_eq_true rfl) d_D_init_9 ⟨(Nat.le_of_ble_eq_true rfl), (Nat.le_of_ble_eq_true rfl)⟩ (fun w H locs hw hP hD hS => ?_)
  obtain ⟨q2, q3, rfl⟩ := hw
  refine pF_D_10 hB hP hD hS hin 0 rfl rfl rfl (Nat.le_of_ble_eq_true rfl) d_D_init_12 (fun H locs hP hD hS => ?_)
  have hP : va_P D classes [(b, .inr (0, [.ref q1, .null, .int (nI 0), .int 0, .int 0, .null, .int (nI 0), .int (nI 0), .int (nI 0), .int 0])), (q1, .inr (1, [.ref q2, .ref q3])), (q2, .inl (cs 0, 800, .inl (fun _ => 0))), (q3, .inl (cs 1, 40, .inl (fun _ => 0)))] H := hP
  have hD : va_D A [(b, .inr (0, [.ref q1, .null, .int (nI 0), .int 0, .int 0, .null, .int (nI 0), .int (nI 0), .int (nI 0), .int 0])), (q1, .inr (1, [.ref q2, .ref q3])), (q2, .inl (cs 0, 800, .inl (fun _ => 0))), (q3, .inl (cs 1, 40, .inl (fun _ => 0)))] := hD
  refine lv_aload_n hx hb d_D_init_15 rfl (lv_at hl 0 rfl) ?_
  refine lv_bipush (v := nI 100) hx hb d_D_init_16 (by decide) ?_
  refine x_newa (atype := .byte) (ty := .byte) hB "[B" (fun _ h => h) (t0 := 0) rfl ac_byte rfl hP hD hS hA (fun _ => rfl) (by decide) (by decide) (Nat.le_of_ble_eq_true rfl) (Nat.le_of_ble_eq_true rfl) d_D_init_18 (fun q4 H hP hD hS => ?_)
  have hP : va_P D classes [(b, .inr (0, [.ref q1, .null, .int (nI 0), .int 0, .int 0, .null, .int (nI 0), .int (nI 0), .int (nI 0), .int 0])), (q1, .inr (1, [.ref q2, .ref q3])), (q2, .inl (cs 0, 800, .inl (fun _ => 0))), (q3, .inl (cs 1, 40, .inl (fun _ => 0))), (q4, .inl (cs 0, 100, .inl (fun _ => 0)))] H := hP
  have hD : va_D A [(b, .inr (0, [.ref q1, .null, .int (nI 0), .int 0, .int 0, .null, .int (nI 0), .int (nI 0), .int (nI 0), .int 0])), (q1, .inr (1, [.ref q2, .ref q3])), (q2, .inl (cs 0, 800, .inl (fun _ => 0))), (q3, .inl (cs 1, 40, .inl (fun _ => 0))), (q4, .inl (cs 0, 100, .inl (fun _ => 0)))] := hD
  refine pF_D_16 hB hP hD hS hin 0 rfl rfl rfl (Nat.le_of_ble_eq_true rfl) d_D_init_20 (fun H locs hP hD hS => ?_)
  have hP : va_P D classes [(b, .inr (0, [.ref q1, .ref q4, .int (nI 0), .int 0, .int 0, .null, .int (nI 0), .int (nI 0), .int (nI 0), .int 0])), (q1, .inr (1, [.ref q2, .ref q3])), (q2, .inl (cs 0, 800, .inl (fun _ => 0))), (q3, .inl (cs 1, 40, .inl (fun _ => 0))), (q4, .inl (cs 0, 100, .inl (fun _ => 0)))] H := hP
  have hD : va_D A [(b, .inr (0, [.ref q1, .ref q4, .int (nI 0), .int 0, .int 0, .null, .int (nI 0), .int (nI 0), .int (nI 0), .int 0])), (q1, .inr (1, [.ref q2, .ref q3])), (q2, .inl (cs 0, 800, .inl (fun _ => 0))), (q3, .inl (cs 1, 40, .inl (fun _ => 0))), (q4, .inl (cs 0, 100, .inl (fun _ => 0)))] := hD
  refine lv_aload_n hx hb d_D_init_23 rfl (lv_at hl 0 rfl) ?_
  refine lv_iconst (v := -1) hx hb d_D_init_24 (by decide) ?_
  refine pf_D_20 hB hP hD hS 0 rfl (Nat.le_of_ble_eq_true rfl) d_D_init_25 (fun H locs hP hD hS => ?_)
  have hP : va_P D classes [(b, .inr (0, [.ref q1, .ref q4, .int (nI 0), .int (-1), .int 0, .null, .int (nI 0), .int (nI 0), .int (nI 0), .int 0])), (q1, .inr (1, [.ref q2, .ref q3])), (q2, .inl (cs 0, 800, .inl (fun _ => 0))), (q3, .inl (cs 1, 40, .inl (fun _ => 0))), (q4, .inl (cs 0, 100, .inl (fun _ => 0)))] H := hP
  have hD : va_D A [(b, .inr (0, [.ref q1, .ref q4, .int (nI 0), .int (-1), .int 0, .null, .int (nI 0), .int (nI 0), .int (nI 0), .int 0])), (q1, .inr (1, [.ref q2, .ref q3])), (q2, .inl (cs 0, 800, .inl (fun _ => 0))), (q3, .inl (cs 1, 40, .inl (fun _ => 0))), (q4, .inl (cs 0, 100, .inl (fun _ => 0)))] := hD
  refine lv_aload_n hx hb d_D_init_28 rfl (lv_at hl 0 rfl) ?_
  refine lv_iconst (v := nI 1) hx hb d_D_init_29 (by decide) ?_
  refine pf_D_24 hB hP hD hS 0 rfl (by decide) (by decide) (Nat.le_of_ble_eq_true rfl) d_D_init_30 (fun H locs hP hD hS => ?_)
  have hP : va_P D classes [(b, .inr (0, [.ref q1, .ref q4, .int (nI 0), .int (-1), .int (nI 1), .null, .int (nI 0), .int (nI 0), .int (nI 0), .int 0])), (q1, .inr (1, [.ref q2, .ref q3])), (q2, .inl (cs 0, 800, .inl (fun _ => 0))), (q3, .inl (cs 1, 40, .inl (fun _ => 0))), (q4, .inl (cs 0, 100, .inl (fun _ => 0)))] H := hP
  have hD : va_D A [(b, .inr (0, [.ref q1, .ref q4, .int (nI 0), .int (-1), .int (nI 1), .null, .int (nI 0), .int (nI 0), .int (nI 0), .int 0])), (q1, .inr (1, [.ref q2, .ref q3])), (q2, .inl (cs 0, 800, .inl (fun _ => 0))), (q3, .inl (cs 1, 40, .inl (fun _ => 0))), (q4, .inl (cs 0, 100, .inl (fun _ => 0)))] := hD
  refine lv_aload_n hx hb d_D_init_33 rfl (lv_at hl 0 rfl) ?_
  refine lv_sipush (v := nI 520) hx hb d_D_init_34 (by decide) ?_
  refine x_newq hB kl_D_28 hP hD hS hA (by decide) (by decide) (Nat.le_of_ble_eq_true rfl) (Nat.le_of_ble_eq_true rfl) d_D_init_37 (fun q5 H hP hD hS => ?_)
  have hP : va_P D classes [(b, .inr (0, [.ref q1, .ref q4, .int (nI 0), .int (-1), .int (nI 1), .null, .int (nI 0), .int (nI 0), .int (nI 0), .int 0])), (q1, .inr (1, [.ref q2, .ref q3])), (q2, .inl (cs 0, 800, .inl (fun _ => 0))), (q3, .inl (cs 1, 40, .inl (fun _ => 0))), (q4, .inl (cs 0, 100, .inl (fun _ => 0))), (q5, .inl (cs 2, 520, .inr (.inr (.inr (.inr (fun _ => none))))))] H := hP
  have hD : va_D A [(b, .inr (0, [.ref q1, .ref q4, .int (nI 0), .int (-1), .int (nI 1), .null, .int (nI 0), .int (nI 0), .int (nI 0), .int 0])), (q1, .inr (1, [.ref q2, .ref q3])), (q2, .inl (cs 0, 800, .inl (fun _ => 0))), (q3, .inl (cs 1, 40, .inl (fun _ => 0))), (q4, .inl (cs 0, 100, .inl (fun _ => 0))), (q5, .inl (cs 2, 520, .inr (.inr (.inr (.inr (fun _ => none))))))] := hD
  refine pF_D_30 hB hP hD hS hin 0 rfl rfl rfl (Nat.le_of_ble_eq_true rfl) d_D_init_40 (fun H locs hP hD hS => ?_)
  have hP : va_P D classes [(b, .inr (0, [.ref q1, .ref q4, .int (nI 0), .int (-1), .int (nI 1), .ref q5, .int (nI 0), .int (nI 0), .int (nI 0), .int 0])), (q1, .inr (1, [.ref q2, .ref q3])), (q2, .inl (cs 0, 800, .inl (fun _ => 0))), (q3, .inl (cs 1, 40, .inl (fun _ => 0))), (q4, .inl (cs 0, 100, .inl (fun _ => 0))), (q5, .inl (cs 2, 520, .inr (.inr (.inr (.inr (fun _ => none))))))] H := hP
  have hD : va_D A [(b, .inr (0, [.ref q1, .ref q4, .int (nI 0), .int (-1), .int (nI 1), .ref q5, .int (nI 0), .int (nI 0), .int (nI 0), .int 0])), (q1, .inr (1, [.ref q2, .ref q3])), (q2, .inl (cs 0, 800, .inl (fun _ => 0))), (q3, .inl (cs 1, 40, .inl (fun _ => 0))), (q4, .inl (cs 0, 100, .inl (fun _ => 0))), (q5, .inl (cs 2, 520, .inr (.inr (.inr (.inr (fun _ => none))))))] := hD
  refine W.widen (k := 5) (n := 1462) (Nat.le_of_ble_eq_true rfl) (Nat.le_of_ble_eq_true rfl) ?_
  refine lv_iconst (v := nI 0) hx hb d_D_init_43 (by decide) ?_
  refine lv_istore_n (lv' := [(1, .int (nI 0)), (0, .ref b)]) hx hb d_D_init_44 rfl hl (by decide) rfl (fun ls hl => ?_)
  have loop : ∀ (n i : Nat) (ad : Nat → Nat), i ≤ 520 → ad 0 = b → 520 + 1 ≤ i + n → ∀ (H : Heap) (locs : List Loc), va_P D classes (dL cs ad i i) H → va_D A (dL cs ad i i) → va_S A s.heap H locs → ∀ ls : Array Slot, lv_has ls 2 [(1, .int (nI i)), (0, .ref b)] → W p l e ({ frames := 2, cells := 525, slots := 3022, locals := 60 } : Room) s m ([.ref b] : List Value).toArray below meth c H locs (5 + i) (1462 + 3 * i) (MQ below (QV D A (fun z => ∃ ad : Nat → Nat, ad 0 = b ∧ z = dW cs ad 0 (-1) (nI 1) 0 0 0 0 (fun _ => 0) (fun _ => 0) (fun _ => 0) (fun _ => 0) (fun _ => 0) (fun _ => 0) [])) ([.ref b] : List Value).toArray s 525 3022 A) (F0 m 45 ls []) := by
    intro n
    induction n with
    | zero => intro i ad hi hab hm; exfalso; omega
    | succ n ih =>
      intro i ad hi hab hm H locs hP hD hS ls hl
      refine lv_iload_n hx hb d_D_init_45 rfl (lv_at hl 0 rfl) ?_
      refine lv_sipush (v := nI 520) hx hb d_D_init_46 (by decide) ?_
      refine n_icmp_ge hx hb (by omega) (by omega) (tgt := 71) d_D_init_49 (by decide) (fun hc => ?_) (fun hc => ?_)
      · have e : i = 520 := by omega
        subst e
        exact r_vQ hB hr hlk (dL_end hP) (dL_endD hD) hS ⟨ad, hab, rfl⟩ d_D_init_71
      · refine lv_aload_n hx hb d_D_init_52 rfl (lv_at hl 1 rfl) ?_
        refine gf_D_30 (fs := [.ref (ad 1), .ref (ad 4), .int (nI 0), .int (-1), .int (nI 1), .ref (ad 5), .int (nI 0), .int (nI 0), .int (nI 0), .int 0]) (v := .ref (ad 5)) hB hP 0 (by rw [← hab]; rfl) rfl d_D_init_53 ?_
        refine lv_iload_n hx hb d_D_init_56 rfl (lv_at hl 0 rfl) ?_
        refine x_new (C := "JournalDesk$Entry") (T := F_E) (N := 3) (ci := 2) (fs := [.int (nI 0), .int (nI 0), .int 0]) hB in_E t_E t_E_ok rfl kl_D_28 is_E it_E hP hD hS hA (fun j hj => by rcases (show j = 0 ∨ j = 1 ∨ j = 2 by omega) with rfl | rfl | rfl <;> rfl) (by show 5 + i + 1 ≤ 525; omega) (by show 1462 + 3 * i + 3 ≤ 3022; omega) d_D_init_57 (fun q H hP hD hS => ?_)
        obtain ⟨a1, rfl, h0, hw1⟩ := dL_new cs ad i q
        rw [hw1] at hP hD
        have h5 : a1 5 = ad 5 := by
          have := congrArg (fun w : va_W => (w[5]?).map (fun q => q.1)) hw1
          exact (Option.some.inj this).symm
        refine lv_dup hx hb d_D_init_60 rfl ?_
        refine x_cIN (host := "JournalDesk") (rest := [.ref (a1 (i + 6)), .int (nI i), .ref (ad 5)]) hB (c_E_init l) cd_E_init im_E_init it_E hN.2.2.1 (by decide +kernel) rfl rfl rfl ⟨Nat.le_of_ble_eq_true rfl, Nat.le_of_ble_eq_true rfl⟩ hP hD hS (fun q h => hA q (Nat.le_trans hS.1 h)) hl.1 (Nat.le_of_ble_eq_true rfl) d_D_init_61 ⟨by show 5 + i + 1 + 0 ≤ 525; omega, by show 1462 + 3 * i + 3 + 0 ≤ 3022; omega⟩ (fun w H locs hw hP hD hS => ?_)
        subst hw
        rw [← h5]
        refine va_astq (r := ("JournalDesk$Entry", F_E, 3)) (f := fnI a1 i) hx hb hK hP hD hS 5 2 (i + 6) 2 rfl rfl (dL_get (by omega)) rfl (vp_in_nI (by omega) (by omega)) d_D_init_64 (fun H locs hP hD hS => ?_)
        rw [nI_clamp (by omega), fn_s] at hP hD
        have hP : va_P D classes (dL cs a1 (i + 1) (i + 1)) H := hP
        have hD : va_D A (dL cs a1 (i + 1) (i + 1)) := hD
        refine W.widen (k := 5 + (i + 1)) (n := 1462 + 3 * (i + 1)) (by omega) (by omega) ?_
        refine n_inc (d := 1) (k := 0) (lv' := [(1, .int (nI (i + 1))), (0, .ref b)]) hx hb d_D_init_65 (by decide) hl rfl (by decide) rfl (fun ls hl => ?_)
        refine lv_goto (tgt := 45) hx hb d_D_init_68 (by decide) ?_
        exact ih (i + 1) a1 (by omega) (by rw [h0]; exact hab) (by omega) H locs hP hD hS ls hl
  have e0 : va_P D classes (dL cs (fun k => match k with | 0 => b | 1 => q1 | 2 => q2 | 3 => q3 | 4 => q4 | _ => q5) 0 0) H := by
    have hP2 := hP
    rw [← fn_0 (ad := fun k => match k with | 0 => b | 1 => q1 | 2 => q2 | 3 => q3 | 4 => q4 | _ => q5)] at hP2
    exact hP2
  have e1 : va_D A (dL cs (fun k => match k with | 0 => b | 1 => q1 | 2 => q2 | 3 => q3 | 4 => q4 | _ => q5) 0 0) := by
    have hD2 := hD
    rw [← fn_0 (ad := fun k => match k with | 0 => b | 1 => q1 | 2 => q2 | 3 => q3 | 4 => q4 | _ => q5)] at hD2
    exact hD2
  exact loop 521 0 _ (by omega) rfl (by omega) H locs e0 e1 hS ls hl
set_option maxHeartbeats 4000000 in
set_option maxRecDepth 100000 in
/-- JournalDeskModel(): all its cells -/
theorem c_M_init (l : Launch) {D : va_G} {A : Nat → Prop} {cs : Nat → ClassId} {b : Nat} {R : va_W} : Met l y_M_init (Cond.code y_M_init b_M_init 1 none :: gw) ({ frames := 1, cells := 5, slots := 4323, locals := 30 }) (va_Pc [.ref b] (StA D cs A ((b, .inr (3, [.null, .int (nI 0), .int (nI 0), .null, .null, .null, .null, .int 0, .int 0, .int 0, .int 0])) :: R))) (QV D A (fun z => ∃ bd : Nat → Nat, bd 0 = b ∧ z = mW cs bd 0 0 0 0 0 (-1) (fun _ => 0) (fun _ => 0) (fun _ => 0) (fun _ => 0) (fun _ => 0) R)) 5 4323 A := by
  refine x_startA (by decide) (Nat.le_of_ble_eq_true rfl) ?_
  intro p e s m below meth c hB hr hlk hin hP hD hA ls hl
  have hx := hB.1
  have hb := hB.2.1
  have hS : va_S A s.heap s.heap [] := va_S.rf
  have hl : lv_has ls 1 [(0, .ref b)] := hl
  refine lv_aload_n hx hb d_M_init_0 rfl (lv_at hl 0 rfl) ?_
  refine x_obj hB mo_M hl.1 (Nat.le_of_ble_eq_true rfl) (Nat.le_of_ble_eq_true rfl) d_M_init_1 ?_
  refine lv_aload_n hx hb d_M_init_4 rfl (lv_at hl 0 rfl) ?_
  refine lv_bipush (v := nI 100) hx hb d_M_init_5 (by decide) ?_
  refine x_newa (atype := .int) (ty := .int) hB "[I" (fun _ h => h) (t0 := 3) rfl ac_int rfl hP hD hS hA (fun _ => rfl) (by decide) (by decide) (Nat.le_of_ble_eq_true rfl) (Nat.le_of_ble_eq_true rfl) d_M_init_7 (fun q1 H hP hD hS => ?_)
  have hP : va_P D classes ((b, .inr (3, [.null, .int (nI 0), .int (nI 0), .null, .null, .null, .null, .int 0, .int 0, .int 0, .int 0])) :: (R ++ [(q1, .inl (cs 3, 100, .inl (fun _ => 0)))])) H := hP
  have hD : va_D A ((b, .inr (3, [.null, .int (nI 0), .int (nI 0), .null, .null, .null, .null, .int 0, .int 0, .int 0, .int 0])) :: (R ++ [(q1, .inl (cs 3, 100, .inl (fun _ => 0)))])) := hD
  refine pF_M_7 hB hP hD hS hin 0 rfl rfl rfl (Nat.le_of_ble_eq_true rfl) d_M_init_9 (fun H locs hP hD hS => ?_)
  have hP : va_P D classes ((b, .inr (3, [.ref q1, .int (nI 0), .int (nI 0), .null, .null, .null, .null, .int 0, .int 0, .int 0, .int 0])) :: (R ++ [(q1, .inl (cs 3, 100, .inl (fun _ => 0)))])) H := hP
  have hD : va_D A ((b, .inr (3, [.ref q1, .int (nI 0), .int (nI 0), .null, .null, .null, .null, .int 0, .int 0, .int 0, .int 0])) :: (R ++ [(q1, .inl (cs 3, 100, .inl (fun _ => 0)))])) := hD
  refine lv_aload_n hx hb d_M_init_12 rfl (lv_at hl 0 rfl) ?_
  refine lv_bipush (v := nI 41) hx hb d_M_init_13 (by decide) ?_
  refine x_newa (atype := .boolean) (ty := .boolean) hB "[Z" (fun _ h => h) (t0 := 1) rfl ac_boolean rfl hP hD hS hA (fun _ => rfl) (by decide) (by decide) (Nat.le_of_ble_eq_true rfl) (Nat.le_of_ble_eq_true rfl) d_M_init_15 (fun q2 H hP hD hS => ?_)
  have hP : va_P D classes ((b, .inr (3, [.ref q1, .int (nI 0), .int (nI 0), .null, .null, .null, .null, .int 0, .int 0, .int 0, .int 0])) :: ((R ++ [(q1, .inl (cs 3, 100, .inl (fun _ => 0)))]) ++ [(q2, .inl (cs 1, 41, .inl (fun _ => 0)))])) H := hP
  have hD : va_D A ((b, .inr (3, [.ref q1, .int (nI 0), .int (nI 0), .null, .null, .null, .null, .int 0, .int 0, .int 0, .int 0])) :: ((R ++ [(q1, .inl (cs 3, 100, .inl (fun _ => 0)))]) ++ [(q2, .inl (cs 1, 41, .inl (fun _ => 0)))])) := hD
  refine pF_M_13 hB hP hD hS hin 0 rfl rfl rfl (Nat.le_of_ble_eq_true rfl) d_M_init_17 (fun H locs hP hD hS => ?_)
  have hP : va_P D classes ((b, .inr (3, [.ref q1, .int (nI 0), .int (nI 0), .ref q2, .null, .null, .null, .int 0, .int 0, .int 0, .int 0])) :: ((R ++ [(q1, .inl (cs 3, 100, .inl (fun _ => 0)))]) ++ [(q2, .inl (cs 1, 41, .inl (fun _ => 0)))])) H := hP
  have hD : va_D A ((b, .inr (3, [.ref q1, .int (nI 0), .int (nI 0), .ref q2, .null, .null, .null, .int 0, .int 0, .int 0, .int 0])) :: ((R ++ [(q1, .inl (cs 3, 100, .inl (fun _ => 0)))]) ++ [(q2, .inl (cs 1, 41, .inl (fun _ => 0)))])) := hD
  refine lv_aload_n hx hb d_M_init_20 rfl (lv_at hl 0 rfl) ?_
  refine lv_bipush (v := nI 41) hx hb d_M_init_21 (by decide) ?_
  refine x_newa (atype := .int) (ty := .int) hB "[I" (fun _ h => h) (t0 := 3) rfl ac_int rfl hP hD hS hA (fun _ => rfl) (by decide) (by decide) (Nat.le_of_ble_eq_true rfl) (Nat.le_of_ble_eq_true rfl) d_M_init_23 (fun q3 H hP hD hS => ?_)
  have hP : va_P D classes ((b, .inr (3, [.ref q1, .int (nI 0), .int (nI 0), .ref q2, .null, .null, .null, .int 0, .int 0, .int 0, .int 0])) :: (((R ++ [(q1, .inl (cs 3, 100, .inl (fun _ => 0)))]) ++ [(q2, .inl (cs 1, 41, .inl (fun _ => 0)))]) ++ [(q3, .inl (cs 3, 41, .inl (fun _ => 0)))])) H := hP
  have hD : va_D A ((b, .inr (3, [.ref q1, .int (nI 0), .int (nI 0), .ref q2, .null, .null, .null, .int 0, .int 0, .int 0, .int 0])) :: (((R ++ [(q1, .inl (cs 3, 100, .inl (fun _ => 0)))]) ++ [(q2, .inl (cs 1, 41, .inl (fun _ => 0)))]) ++ [(q3, .inl (cs 3, 41, .inl (fun _ => 0)))])) := hD
  refine pF_M_17 hB hP hD hS hin 0 rfl rfl rfl (Nat.le_of_ble_eq_true rfl) d_M_init_25 (fun H locs hP hD hS => ?_)
  have hP : va_P D classes ((b, .inr (3, [.ref q1, .int (nI 0), .int (nI 0), .ref q2, .ref q3, .null, .null, .int 0, .int 0, .int 0, .int 0])) :: (((R ++ [(q1, .inl (cs 3, 100, .inl (fun _ => 0)))]) ++ [(q2, .inl (cs 1, 41, .inl (fun _ => 0)))]) ++ [(q3, .inl (cs 3, 41, .inl (fun _ => 0)))])) H := hP
  have hD : va_D A ((b, .inr (3, [.ref q1, .int (nI 0), .int (nI 0), .ref q2, .ref q3, .null, .null, .int 0, .int 0, .int 0, .int 0])) :: (((R ++ [(q1, .inl (cs 3, 100, .inl (fun _ => 0)))]) ++ [(q2, .inl (cs 1, 41, .inl (fun _ => 0)))]) ++ [(q3, .inl (cs 3, 41, .inl (fun _ => 0)))])) := hD
  refine lv_aload_n hx hb d_M_init_28 rfl (lv_at hl 0 rfl) ?_
  refine lv_bipush (v := nI 41) hx hb d_M_init_29 (by decide) ?_
  refine x_newa (atype := .int) (ty := .int) hB "[I" (fun _ h => h) (t0 := 3) rfl ac_int rfl hP hD hS hA (fun _ => rfl) (by decide) (by decide) (Nat.le_of_ble_eq_true rfl) (Nat.le_of_ble_eq_true rfl) d_M_init_31 (fun q4 H hP hD hS => ?_)
  have hP : va_P D classes ((b, .inr (3, [.ref q1, .int (nI 0), .int (nI 0), .ref q2, .ref q3, .null, .null, .int 0, .int 0, .int 0, .int 0])) :: ((((R ++ [(q1, .inl (cs 3, 100, .inl (fun _ => 0)))]) ++ [(q2, .inl (cs 1, 41, .inl (fun _ => 0)))]) ++ [(q3, .inl (cs 3, 41, .inl (fun _ => 0)))]) ++ [(q4, .inl (cs 3, 41, .inl (fun _ => 0)))])) H := hP
  have hD : va_D A ((b, .inr (3, [.ref q1, .int (nI 0), .int (nI 0), .ref q2, .ref q3, .null, .null, .int 0, .int 0, .int 0, .int 0])) :: ((((R ++ [(q1, .inl (cs 3, 100, .inl (fun _ => 0)))]) ++ [(q2, .inl (cs 1, 41, .inl (fun _ => 0)))]) ++ [(q3, .inl (cs 3, 41, .inl (fun _ => 0)))]) ++ [(q4, .inl (cs 3, 41, .inl (fun _ => 0)))])) := hD
  refine pF_M_20 hB hP hD hS hin 0 rfl rfl rfl (Nat.le_of_ble_eq_true rfl) d_M_init_33 (fun H locs hP hD hS => ?_)
  have hP : va_P D classes ((b, .inr (3, [.ref q1, .int (nI 0), .int (nI 0), .ref q2, .ref q3, .ref q4, .null, .int 0, .int 0, .int 0, .int 0])) :: ((((R ++ [(q1, .inl (cs 3, 100, .inl (fun _ => 0)))]) ++ [(q2, .inl (cs 1, 41, .inl (fun _ => 0)))]) ++ [(q3, .inl (cs 3, 41, .inl (fun _ => 0)))]) ++ [(q4, .inl (cs 3, 41, .inl (fun _ => 0)))])) H := hP
  have hD : va_D A ((b, .inr (3, [.ref q1, .int (nI 0), .int (nI 0), .ref q2, .ref q3, .ref q4, .null, .int 0, .int 0, .int 0, .int 0])) :: ((((R ++ [(q1, .inl (cs 3, 100, .inl (fun _ => 0)))]) ++ [(q2, .inl (cs 1, 41, .inl (fun _ => 0)))]) ++ [(q3, .inl (cs 3, 41, .inl (fun _ => 0)))]) ++ [(q4, .inl (cs 3, 41, .inl (fun _ => 0)))])) := hD
  refine lv_aload_n hx hb d_M_init_36 rfl (lv_at hl 0 rfl) ?_
  refine lv_sipush (v := nI 4100) hx hb d_M_init_37 (by decide) ?_
  refine x_newa (atype := .int) (ty := .int) hB "[I" (fun _ h => h) (t0 := 3) rfl ac_int rfl hP hD hS hA (fun _ => rfl) (by decide) (by decide) (Nat.le_of_ble_eq_true rfl) (Nat.le_of_ble_eq_true rfl) d_M_init_40 (fun q5 H hP hD hS => ?_)
  have hP : va_P D classes ((b, .inr (3, [.ref q1, .int (nI 0), .int (nI 0), .ref q2, .ref q3, .ref q4, .null, .int 0, .int 0, .int 0, .int 0])) :: (((((R ++ [(q1, .inl (cs 3, 100, .inl (fun _ => 0)))]) ++ [(q2, .inl (cs 1, 41, .inl (fun _ => 0)))]) ++ [(q3, .inl (cs 3, 41, .inl (fun _ => 0)))]) ++ [(q4, .inl (cs 3, 41, .inl (fun _ => 0)))]) ++ [(q5, .inl (cs 3, 4100, .inl (fun _ => 0)))])) H := hP
  have hD : va_D A ((b, .inr (3, [.ref q1, .int (nI 0), .int (nI 0), .ref q2, .ref q3, .ref q4, .null, .int 0, .int 0, .int 0, .int 0])) :: (((((R ++ [(q1, .inl (cs 3, 100, .inl (fun _ => 0)))]) ++ [(q2, .inl (cs 1, 41, .inl (fun _ => 0)))]) ++ [(q3, .inl (cs 3, 41, .inl (fun _ => 0)))]) ++ [(q4, .inl (cs 3, 41, .inl (fun _ => 0)))]) ++ [(q5, .inl (cs 3, 4100, .inl (fun _ => 0)))])) := hD
  refine pF_M_23 hB hP hD hS hin 0 rfl rfl rfl (Nat.le_of_ble_eq_true rfl) d_M_init_42 (fun H locs hP hD hS => ?_)
  have hP : va_P D classes ((b, .inr (3, [.ref q1, .int (nI 0), .int (nI 0), .ref q2, .ref q3, .ref q4, .ref q5, .int 0, .int 0, .int 0, .int 0])) :: (((((R ++ [(q1, .inl (cs 3, 100, .inl (fun _ => 0)))]) ++ [(q2, .inl (cs 1, 41, .inl (fun _ => 0)))]) ++ [(q3, .inl (cs 3, 41, .inl (fun _ => 0)))]) ++ [(q4, .inl (cs 3, 41, .inl (fun _ => 0)))]) ++ [(q5, .inl (cs 3, 4100, .inl (fun _ => 0)))])) H := hP
  have hD : va_D A ((b, .inr (3, [.ref q1, .int (nI 0), .int (nI 0), .ref q2, .ref q3, .ref q4, .ref q5, .int 0, .int 0, .int 0, .int 0])) :: (((((R ++ [(q1, .inl (cs 3, 100, .inl (fun _ => 0)))]) ++ [(q2, .inl (cs 1, 41, .inl (fun _ => 0)))]) ++ [(q3, .inl (cs 3, 41, .inl (fun _ => 0)))]) ++ [(q4, .inl (cs 3, 41, .inl (fun _ => 0)))]) ++ [(q5, .inl (cs 3, 4100, .inl (fun _ => 0)))])) := hD
  refine lv_aload_n hx hb d_M_init_45 rfl (lv_at hl 0 rfl) ?_
  refine lv_iconst (v := -1) hx hb d_M_init_46 (by decide) ?_
  refine pf_M_26 hB hP hD hS 0 rfl (Nat.le_of_ble_eq_true rfl) d_M_init_47 (fun H locs hP hD hS => ?_)
  have hP : va_P D classes ((b, .inr (3, [.ref q1, .int (nI 0), .int (nI 0), .ref q2, .ref q3, .ref q4, .ref q5, .int 0, .int 0, .int 0, .int (-1)])) :: (((((R ++ [(q1, .inl (cs 3, 100, .inl (fun _ => 0)))]) ++ [(q2, .inl (cs 1, 41, .inl (fun _ => 0)))]) ++ [(q3, .inl (cs 3, 41, .inl (fun _ => 0)))]) ++ [(q4, .inl (cs 3, 41, .inl (fun _ => 0)))]) ++ [(q5, .inl (cs 3, 4100, .inl (fun _ => 0)))])) H := hP
  have hD : va_D A ((b, .inr (3, [.ref q1, .int (nI 0), .int (nI 0), .ref q2, .ref q3, .ref q4, .ref q5, .int 0, .int 0, .int 0, .int (-1)])) :: (((((R ++ [(q1, .inl (cs 3, 100, .inl (fun _ => 0)))]) ++ [(q2, .inl (cs 1, 41, .inl (fun _ => 0)))]) ++ [(q3, .inl (cs 3, 41, .inl (fun _ => 0)))]) ++ [(q4, .inl (cs 3, 41, .inl (fun _ => 0)))]) ++ [(q5, .inl (cs 3, 4100, .inl (fun _ => 0)))])) := hD
  have hpm : ((b, .inr (3, [.ref q1, .int (nI 0), .int (nI 0), .ref q2, .ref q3, .ref q4, .ref q5, .int 0, .int 0, .int 0, .int (-1)])) :: (((((R ++ [(q1, .inl (cs 3, 100, .inl (fun _ => 0)))]) ++ [(q2, .inl (cs 1, 41, .inl (fun _ => 0)))]) ++ [(q3, .inl (cs 3, 41, .inl (fun _ => 0)))]) ++ [(q4, .inl (cs 3, 41, .inl (fun _ => 0)))]) ++ [(q5, .inl (cs 3, 4100, .inl (fun _ => 0)))])).Perm (mW cs (fun k => match k with | 0 => b | 1 => q1 | 2 => q2 | 3 => q3 | 4 => q4 | _ => q5) 0 0 0 0 0 (-1) (fun _ => 0) (fun _ => 0) (fun _ => 0) (fun _ => 0) (fun _ => 0) R) := by
    refine List.Perm.cons _ ?_
    have e : (((((R ++ [(q1, .inl (cs 3, 100, .inl (fun _ => 0)))]) ++ [(q2, .inl (cs 1, 41, .inl (fun _ => 0)))]) ++ [(q3, .inl (cs 3, 41, .inl (fun _ => 0)))]) ++ [(q4, .inl (cs 3, 41, .inl (fun _ => 0)))]) ++ [(q5, .inl (cs 3, 4100, .inl (fun _ => 0)))]) = R ++ [(q1, .inl (cs 3, 100, .inl (fun _ => 0))), (q2, .inl (cs 1, 41, .inl (fun _ => 0))), (q3, .inl (cs 3, 41, .inl (fun _ => 0))), (q4, .inl (cs 3, 41, .inl (fun _ => 0))), (q5, .inl (cs 3, 4100, .inl (fun _ => 0)))] := by simp only [List.append_assoc, List.cons_append, List.nil_append]
    rw [e]
    exact List.perm_append_comm
  exact r_vQ hB hr hlk (pm_P hpm hP) (pm_D hpm hD) hS ⟨_, rfl, rfl⟩ d_M_init_50
end
section
/-! the invariant and the relation to the model are kept, in plain words -/
section KEEP
variable {ol nx en rq : Nat} {B Rt : Nat → Int32} {eA eS : Nat → Nat} {eN : Nat → Int32}
theorem dI_us (h : dI ol nx en rq B Rt eA eS eN) {k : Nat} (h1 : ol ≤ k) (h2 : k < nx) : us eS ol (k - ol) + nd (eS k) ≤ us eS ol (nx - ol) := by
  have e := us_mono eS ol (show k - ol + 1 ≤ nx - ol by omega)
  have e2 : us eS ol (k - ol + 1) = us eS ol (k - ol) + nd (eS (ol + (k - ol))) := rfl
  rw [show ol + (k - ol) = k by omega] at e2
  omega
/-- a sector of an entry that is kept is none of those that are free -/
theorem apart (h : dI ol nx en rq B Rt eA eS eN) {n k p i : Nat} (hU : us eS ol (nx - ol) + n ≤ 40) (h1 : ol ≤ k) (h2 : k < nx) (hp : p < nd (eS k)) (hi : i < n) : ¬ (eA k + p) % 40 = (en + i) % 40 := by
  have e1 := dI_us h h1 h2
  obtain ⟨-, -, -, -, hpos, hen, -⟩ := h
  have e2 := hpos (k - ol) (by omega)
  rw [show ol + (k - ol) = k by omega] at e2
  have e3 := hen (by omega)
  rw [e2, e3]
  omega
theorem apart0 (h : dI ol nx en rq B Rt eA eS eN) {n k i : Nat} (hU : us eS ol (nx - ol) + n ≤ 40) (h1 : ol ≤ k) (h2 : k < nx) (hi : i < n) : ¬ eA k = (en + i) % 40 := by
  have e := apart h hU h1 h2 (p := 0) (by have := nd_pos (eS k); omega) hi
  have ha := h.1.2.2.2.2 k
  rwa [Nat.add_zero, Nat.mod_eq_of_lt ha] at e
theorem us_up {f : Nat → Nat} {a m n v : Nat} (h : a + m ≤ n) : us (va_up f n v) a m = us f a m := us_congr m (fun j hj => va_up_ne _ _ (by omega))
theorem mn_up {f : Nat → Int32} {a m n : Nat} {v : Int32} (h : a + m ≤ n) : mn (va_up f n v) a m = mn f a m := mn_congr m (fun j hj => by rw [va_up_ne _ _ (by omega)])
theorem mn_mono (f : Nat → Int32) (a : Nat) {m n : Nat} (h : m ≤ n) : mn f a m ≤ mn f a n := by
  have e := mn_split f a m (n - m)
  rw [show m + (n - m) = n by omega] at e
  omega
/-- a kept entry's words stay when all sectors of it stay -/
theorem kept_ok {B1 R1 : Nat → Int32} {k : Nat} (ha : eA k < 40) (hrow : ∀ p, p < nd (eS k) → (∀ j, j < 20 → B1 (20 * ((eA k + p) % 40) + j) = B (20 * ((eA k + p) % 40) + j)) ∧ R1 ((eA k + p) % 40) = Rt ((eA k + p) % 40))
    (h : (∀ p, p < nd (eS k) → okS B Rt (nI k) ((eA k + p) % 40) p) ∧ r1 B (eA k) 3 = (if eN k = -1 then nI 255 else nI (eS k)) ∧ (eN k = -1 → eS k = 0) ∧ (¬ eN k = -1 → r2 B (eA k) 6 = eN k)) :
    (∀ p, p < nd (eS k) → okS B1 R1 (nI k) ((eA k + p) % 40) p) ∧ r1 B1 (eA k) 3 = (if eN k = -1 then nI 255 else nI (eS k)) ∧ (eN k = -1 → eS k = 0) ∧ (¬ eN k = -1 → r2 B1 (eA k) 6 = eN k) := by
  obtain ⟨g1, g2, g3, g4⟩ := h
  have h0 := (hrow 0 (by have := nd_pos (eS k); omega)).1
  rw [Nat.add_zero, Nat.mod_eq_of_lt ha] at h0
  refine ⟨fun p hp => ?_, by rw [r1_kept (by omega) h0]; exact g2, g3, fun q => by rw [r2_kept (by omega) h0]; exact g4 q⟩
  obtain ⟨a1, a2, a3⟩ := g1 p hp
  obtain ⟨b1, b2⟩ := hrow p hp
  exact ⟨by rw [b2]; exact a1, by rw [r2_kept (by omega) b1]; exact a2, by rw [r1_kept (by omega) b1]; exact a3⟩
theorem nI_eq0 {n : Nat} (h : n < 2 ^ 31) (e : nI n = 0) : n = 0 := (nI_eq h (by omega)).mp (e.trans nI_0.symm)
/-- an entry has been written whole: the invariant, with ke the oldest one that is kept then -/
theorem dI_app (h : dI ol nx en rq B Rt eA eS eN) {B1 R1 Tp : Nat → Int32} {bs ke : Nat} {nu : Int32} (hn : nx < 520) (hw : wrote B Rt B1 R1 en nx (nd bs) bs ke nu (nI rq) Tp) (hU : us eS ol (nx - ol) + nd bs ≤ 40) (hb : bs ≤ 100) (hnb : nu = -1 → bs = 0) (hnr : ¬ nu = -1 → nu = nI rq) (hk1 : ol ≤ ke) (hk2 : ke ≤ nx) :
    dI ke (nx + 1) ((en + nd bs) % 40) (rq + (if nu = -1 then 0 else 1)) B1 R1 (va_up eA nx en) (va_up eS nx bs) (va_up eN nx nu) := by
  have hap := fun {k p i : Nat} (a1 : ol ≤ k) (a2 : k < nx) (a3 : p < nd (eS k)) (a4 : i < nd bs) => apart h hU a1 a2 a3 a4
  obtain ⟨⟨i1, i2, i3, i4, i5⟩, j1, j2, j3, j4, j5, j6, j7, j8, j9⟩ := h
  obtain ⟨w1, w2⟩ := hw
  have hnd := nd_le hb
  have hnp := nd_pos bs
  have hen : (en + 0) % 40 = en := by rw [Nat.add_zero]; exact Nat.mod_eq_of_lt i2
  have hw0 := w2 0 (by omega)
  rw [hen] at hw0
  have hsp : us eS ol (nx - ol) = us eS ol (ke - ol) + us eS ke (nx - ke) := by
    have e := us_split eS ol (ke - ol) (nx - ke)
    rw [show ke - ol + (nx - ke) = nx - ol by omega, show ol + (ke - ol) = ke by omega] at e
    exact e
  have hst : ∀ t, t < 40 → ¬ R1 t = 0 → ∃ e, e ≤ nx ∧ r2 B1 t 0 = nI e ∧ (ke ≤ e → r1 B1 t 2 = 0 → t = va_up eA nx en e) := by
    intro t ht hr
    by_cases q : ∃ k, k < nd bs ∧ t = (en + k) % 40
    · obtain ⟨k, hk, e⟩ := q
      have hwk := w2 k hk
      rw [← e] at hwk
      refine ⟨nx, Nat.le_refl _, hwk.2.1, fun _ hz => ?_⟩
      rw [hwk.2.2.1] at hz
      have : k = 0 := nI_eq0 (by omega) hz
      subst this
      rw [va_up_self, e, hen]
    · have hno : ∀ k, k < nd bs → ¬ t = (en + k) % 40 := fun k hk e => q ⟨k, hk, e⟩
      obtain ⟨a1, a2⟩ := w1 t ht hno
      rw [a2] at hr
      obtain ⟨e, b1, b2, b3⟩ := j8 t ht hr
      refine ⟨e, b1, by rw [r2_kept (by omega) a1]; exact b2, fun c1 c2 => ?_⟩
      rw [r1_kept (by omega) a1] at c2
      have := b3 (by omega) c2
      by_cases c3 : e < nx
      · rw [if_pos c3] at this
        rw [va_up_ne _ _ (by omega)]
        exact this
      · rw [if_neg c3] at this
        rw [show e = nx by omega, va_up_self]
        exact this
  refine ⟨⟨by omega, Nat.mod_lt _ (by omega), by split <;> omega, fun k => ?_, fun k => ?_⟩, fun q => by omega, fun _ => by omega, ?_, fun d hd => ?_, fun _ => ?_, fun k k1 k2 => ?_, fun _ => ?_, fun t ht hr => ?_, fun hwa => ?_⟩
  · by_cases e : k = nx
    · rw [e, va_up_self]; exact hb
    · rw [va_up_ne _ _ e]; exact i4 k
  · by_cases e : k = nx
    · rw [e, va_up_self]; exact i2
    · rw [va_up_ne _ _ e]; exact i5 k
  · rw [show nx + 1 - ke = (nx - ke) + 1 by omega]
    show us (va_up eS nx bs) ke (nx - ke) + nd (va_up eS nx bs (ke + (nx - ke))) ≤ 40
    rw [show ke + (nx - ke) = nx by omega, va_up_self, us_up (by omega)]
    omega
  · rw [us_up (by omega)]
    by_cases hkn : ke = nx
    · have : d = 0 := by omega
      subst this
      rw [Nat.add_zero, hkn, va_up_self]
      show en = (en + 0) % 40
      rw [hen]
    · rw [va_up_ne (k := nx) (j := ke) _ _ hkn]
      have e1 := j4 (ke - ol) (by omega)
      rw [show ol + (ke - ol) = ke by omega] at e1
      have e2 := us_split eS ol (ke - ol) d
      rw [show ol + (ke - ol) = ke by omega] at e2
      by_cases hdn : ke + d = nx
      · rw [hdn, va_up_self, j5 (by omega), show nx - ol = ke - ol + d by omega, e2, e1]
        omega
      · rw [va_up_ne _ _ hdn]
        have e3 := j4 (ke - ol + d) (by omega)
        rw [show ol + (ke - ol + d) = ke + d by omega] at e3
        rw [e3, e2, e1]
        omega
  · rw [show nx + 1 - ke = (nx - ke) + 1 by omega]
    show _ = (_ + (us (va_up eS nx bs) ke (nx - ke) + nd (va_up eS nx bs (ke + (nx - ke))))) % 40
    rw [show ke + (nx - ke) = nx by omega, va_up_self, us_up (by omega)]
    by_cases hkn : ke = nx
    · rw [hkn, va_up_self, Nat.sub_self]
      show _ = (en + (0 + nd bs)) % 40
      rw [Nat.zero_add]
    · rw [va_up_ne (k := nx) (j := ke) _ _ hkn]
      have e1 := j4 (ke - ol) (by omega)
      rw [show ol + (ke - ol) = ke by omega] at e1
      have e2 := j5 (by omega)
      rw [e1, e2, hsp]
      omega
  · by_cases e : k = nx
    · rw [e, va_up_self, va_up_self, va_up_self]
      obtain ⟨s0, s1, s2, s3, s4, s5, -⟩ := hw0
      refine ⟨fun p hp => ?_, s3, hnb, fun q => by rw [s5, hnr q]⟩
      have hwp := w2 p hp
      exact ⟨by rw [hwp.1]; decide, hwp.2.1, hwp.2.2.1⟩
    · rw [va_up_ne _ _ e, va_up_ne _ _ e, va_up_ne _ _ e]
      refine kept_ok (i5 k) (fun p hp => w1 _ (Nat.mod_lt _ (by omega)) (fun i hi => hap (by omega) (by omega) hp hi)) (j6 k (by omega) (by omega))
  · rw [Nat.add_sub_cancel, va_up_self, va_up_self]
    obtain ⟨s0, s1, s2, s3, s4, s5, -⟩ := hw0
    refine ⟨s4, ?_⟩
    rw [s5]
    split
    · rw [Nat.add_zero]
      exact nI_add rq 0
    · exact nI_1 rq
  · obtain ⟨e, e1, e2, e3⟩ := hst t ht hr
    exact ⟨e, by omega, e2, fun c1 c2 => by rw [if_pos (by omega)]; exact e3 c1 c2⟩
  · obtain ⟨e, e1, e2, -⟩ := hst _ (Nat.mod_lt _ (by omega)) hwa.1
    have := (nI_eq (by omega) (by omega)).mp (e2.symm.trans hwa.2.1)
    omega
/-- the power went in the midst of an entry -/
theorem dI_fail (h : dI ol nx en rq B Rt eA eS eN) {B1 R1 Tp : Nat → Int32} {w bs ke : Nat} {nu rc : Int32} (hn : nx < 520) (hw : wrote B Rt B1 R1 en nx w bs ke nu rc Tp) (hU : us eS ol (nx - ol) + nd bs ≤ 40) (hb : bs ≤ 100) (hnb : nu = -1 → bs = 0) (hwl : w < nd bs) :
    dI ol nx en rq B1 (upd R1 ((en + w) % 40) (nI 0)) (va_up eA nx en) (va_up eS nx bs) (va_up eN nx nu) := by
  have hap := fun {k p i : Nat} (a1 : ol ≤ k) (a2 : k < nx) (a3 : p < nd (eS k)) (a4 : i < nd bs) => apart h hU a1 a2 a3 a4
  have hap0 := fun {k i : Nat} (a1 : ol ≤ k) (a2 : k < nx) (a4 : i < nd bs) => apart0 h hU a1 a2 a4
  obtain ⟨⟨i1, i2, i3, i4, i5⟩, j1, j2, j3, j4, j5, j6, j7, j8, j9⟩ := h
  obtain ⟨w1, w2⟩ := hw
  have hnd := nd_le hb
  have hen : (en + 0) % 40 = en := by rw [Nat.add_zero]; exact Nat.mod_eq_of_lt i2
  refine ⟨⟨i1, i2, i3, fun k => ?_, fun k => ?_⟩, j1, j2, by rw [us_up (by omega)]; exact j3, fun d hd => ?_, fun q => ?_, fun k k1 k2 => ?_, fun q => ?_, fun t ht hr => ?_, fun hwa => ?_⟩
  · by_cases e : k = nx
    · rw [e, va_up_self]; exact hb
    · rw [va_up_ne _ _ e]; exact i4 k
  · by_cases e : k = nx
    · rw [e, va_up_self]; exact i2
    · rw [va_up_ne _ _ e]; exact i5 k
  · rw [us_up (by omega), va_up_ne _ _ (by omega), va_up_ne _ _ (by omega)]
    exact j4 d hd
  · rw [us_up (by omega), va_up_ne _ _ (by omega)]
    exact j5 q
  · have e : k ≠ nx := by omega
    rw [va_up_ne _ _ e, va_up_ne _ _ e, va_up_ne _ _ e]
    refine kept_ok (i5 k) (fun p hp => ?_) (j6 k k1 k2)
    have e2 := w1 _ (Nat.mod_lt _ (by omega)) (fun i hi => hap k1 k2 hp (by omega))
    exact ⟨e2.1, by rw [pk_un (hap k1 k2 hp hwl)]; exact e2.2⟩
  · have e : nx - 1 ≠ nx := by omega
    have hol := j2 q
    rw [va_up_ne _ _ e, va_up_ne _ _ e]
    have hrow := (w1 (eA (nx - 1)) (i5 _) (fun i hi => hap0 (by omega) (by omega) (by omega))).1
    rw [r2_kept (by omega) hrow, r2_kept (by omega) hrow]
    exact j7 q
  · have hne : ¬ t = (en + w) % 40 := by
      intro e
      rw [e, pk_us] at hr
      exact hr nI_0
    rw [pk_un hne] at hr
    by_cases q : ∃ k, k < w ∧ t = (en + k) % 40
    · obtain ⟨k, hk, e⟩ := q
      have hwk := w2 k hk
      rw [← e] at hwk
      refine ⟨nx, Nat.le_refl _, hwk.2.1, fun _ hz => ?_⟩
      rw [hwk.2.2.1] at hz
      have : k = 0 := nI_eq0 (by omega) hz
      subst this
      rw [if_neg (Nat.lt_irrefl _), e, hen]
    · have hno : ∀ k, k < w → ¬ t = (en + k) % 40 := fun k hk e => q ⟨k, hk, e⟩
      obtain ⟨a1, a2⟩ := w1 t ht hno
      rw [a2] at hr
      obtain ⟨e, b1, b2, b3⟩ := j8 t ht hr
      refine ⟨e, b1, by rw [r2_kept (by omega) a1]; exact b2, fun c1 c2 => ?_⟩
      rw [r1_kept (by omega) a1] at c2
      have := b3 c1 c2
      by_cases c3 : e < nx
      · rw [if_pos c3] at this ⊢
        rw [va_up_ne _ _ (by omega)]
        exact this
      · rw [if_neg c3] at this ⊢
        exact this
  · by_cases e : w = 0
    · subst e
      have := hwa.1
      rw [hen, pk_us] at this
      exact this nI_0
    · have hw0 := w2 0 (by omega)
      rw [hen] at hw0
      obtain ⟨s0, s1, s2, s3, -⟩ := hw0
      have hz : sza B1 en = bs := by
        by_cases q : nu = -1
        · rw [if_pos q] at s3
          rw [hnb q]
          exact sza_t (by rw [s3]; rfl)
        · rw [if_neg q] at s3
          unfold sza
          rw [s3, if_neg (by
            intro z
            have := (nI_eq (a := bs) (b := 255) (by omega) (by omega)).mp z
            omega), nI_clamp (by omega)]
      have := (hwa.2.2.2 w (by rw [hz]; exact hwl)).1
      rw [pk_us] at this
      exact this nI_0
end KEEP
end
section
/-! the desk and the model hold the same -/
/-- entry for entry: kind, size, number, bytes -/
def rl (ol nx : Nat) (B : Nat → Int32) (eA eS : Nat → Nat) (eN Rc Sz Nm By : Nat → Int32) : Prop := ∀ k, ol + k < nx → (eN (ol + k) = -1 ↔ Rc k = 0) ∧ vp_nar .boolean (Rc k) = Rc k ∧ Sz k = nI (eS (ol + k)) ∧ (¬ eN (ol + k) = -1 → Nm k = eN (ol + k)) ∧ ∀ i, i < eS (ol + k) → By (100 * k + i) = r1 B ((eA (ol + k) + i / 12) % 40) (8 + i % 12)
theorem nd_ix {i n : Nat} (h : i < n) : i / 12 < nd n := by
  unfold nd
  split <;> omega
theorem qR_iff {Rc : Nat → Int32} {k : Nat} : qR Rc k = -1 ↔ Rc k = 0 := by
  constructor
  · intro h
    by_cases q : Rc k = 0
    · exact q
    · exact absurd h (qR_f q)
  · exact qR_t
section RL
variable {ol nx en rq : Nat} {B Rt : Nat → Int32} {eA eS : Nat → Nat} {eN Rc Sz Nm By : Nat → Int32}
theorem rl_mn (h : rl ol nx B eA eS eN Rc Sz Nm By) {m : Nat} (hm : ol + m ≤ nx) : mn (qR Rc) 0 m = mn eN ol m := mn_congr m (fun j hj => by rw [Nat.zero_add, qR_iff]; exact (h j (by omega)).1.symm)
theorem rl_us : us (fun k => eS (ol + k)) 0 (nx - ol) = us eS ol (nx - ol) := us_congr _ (fun j _ => by rw [Nat.zero_add])
theorem rl_hz (hI : dI ol nx en rq B Rt eA eS eN) (h : rl ol nx B eA eS eN Rc Sz Nm By) : ∀ k, k < nx - ol → Sz k = nI ((fun k => eS (ol + k)) k) ∧ (Rc k = 0 → (fun k => eS (ol + k)) k = 0) := by
  intro k hk
  obtain ⟨h1, -, h3, -⟩ := h k (by omega)
  exact ⟨h3, fun q => (hI.2.2.2.2.2.2.1 (ol + k) (by omega) (by omega)).2.2.1 (h1.mpr q)⟩
theorem rl_kp (hI : dI ol nx en rq B Rt eA eS eN) : nx - ol ≤ 41 := by
  have h1 := us_ge eS ol (nx - ol)
  have h2 := hI.2.2.2.1
  omega
theorem pf_rel {q1 q2 : Nat → Int32} : ∀ (m a b i : Nat), (∀ j, j < m → (q1 (a + j) = -1 ↔ q2 (b + j) = -1)) → (pf q1 m a i = none ∧ pf q2 m b i = none) ∨ ∃ j, j < m ∧ pf q1 m a i = some (a + j) ∧ pf q2 m b i = some (b + j)
  | 0, _, _, _, _ => Or.inl ⟨rfl, rfl⟩
  | m + 1, a, b, i, h => by
    have h0 := h 0 (by omega)
    rw [Nat.add_zero, Nat.add_zero] at h0
    have hs : ∀ j, j < m → (q1 (a + 1 + j) = -1 ↔ q2 (b + 1 + j) = -1) := fun j hj => by
      have := h (j + 1) (by omega)
      rw [show a + 1 + j = a + (j + 1) by omega, show b + 1 + j = b + (j + 1) by omega]
      exact this
    show ((if q1 a = -1 then pf q1 m (a + 1) i else if i = 0 then some a else pf q1 m (a + 1) (i - 1)) = none ∧ (if q2 b = -1 then pf q2 m (b + 1) i else if i = 0 then some b else pf q2 m (b + 1) (i - 1)) = none) ∨ ∃ j, j < m + 1 ∧ (if q1 a = -1 then pf q1 m (a + 1) i else if i = 0 then some a else pf q1 m (a + 1) (i - 1)) = some (a + j) ∧ (if q2 b = -1 then pf q2 m (b + 1) i else if i = 0 then some b else pf q2 m (b + 1) (i - 1)) = some (b + j)
    by_cases c1 : q1 a = -1
    · rw [if_pos c1, if_pos (h0.mp c1)]
      rcases pf_rel m (a + 1) (b + 1) i hs with q | ⟨j, g1, g2, g3⟩
      · exact Or.inl q
      · exact Or.inr ⟨j + 1, by omega, by rw [g2]; congr 1; omega, by rw [g3]; congr 1; omega⟩
    · rw [if_neg c1, if_neg (fun z => c1 (h0.mpr z))]
      by_cases c2 : i = 0
      · rw [if_pos c2, if_pos c2]
        exact Or.inr ⟨0, by omega, rfl, rfl⟩
      · rw [if_neg c2, if_neg c2]
        rcases pf_rel m (a + 1) (b + 1) (i - 1) hs with q | ⟨j, g1, g2, g3⟩
        · exact Or.inl q
        · exact Or.inr ⟨j + 1, by omega, by rw [g2]; congr 1; omega, by rw [g3]; congr 1; omega⟩
theorem fd_rel {pw of x : Int32} (hpo : ¬ of = 0 ↔ pw = 0) (h : rl ol nx B eA eS eN Rc Sz Nm By) : (fdx pw eN ol nx x = none ∧ fdm of Rc (nx - ol) x = none) ∨ ∃ j, ol + j < nx ∧ fdx pw eN ol nx x = some (ol + j) ∧ fdm of Rc (nx - ol) x = some j ∧ ¬ pw = 0 := by
  unfold fdx fdm
  by_cases c : pw = 0 ∨ x < 0
  · rw [if_pos c, if_pos (c.imp hpo.mpr id)]
    exact Or.inl ⟨rfl, rfl⟩
  · rw [if_neg c, if_neg (fun q => c (q.imp hpo.mp id))]
    rcases pf_rel (q1 := eN) (q2 := qR Rc) (nx - ol) ol 0 x.toNatClampNeg (fun j hj => by rw [Nat.zero_add, qR_iff]; exact (h j (by omega)).1) with q | ⟨j, g1, g2, g3⟩
    · exact Or.inl q
    · exact Or.inr ⟨j, by omega, g2, by rw [g3, Nat.zero_add], fun z => c (Or.inl z)⟩
theorem pf_rec {q : Nat → Int32} : ∀ (m a i k : Nat), pf q m a i = some k → ¬ q k = -1
  | 0, _, _, _, h => by cases h
  | m + 1, a, i, k, h => by
    have h : (if q a = -1 then pf q m (a + 1) i else if i = 0 then some a else pf q m (a + 1) (i - 1)) = some k := h
    by_cases c : q a = -1
    · rw [if_pos c] at h
      exact pf_rec m (a + 1) i k h
    · rw [if_neg c] at h
      by_cases c2 : i = 0
      · rw [if_pos c2] at h
        cases h
        exact c
      · rw [if_neg c2] at h
        exact pf_rec m (a + 1) (i - 1) k h
theorem fdx_rec {pw x : Int32} {k : Nat} (h : fdx pw eN ol nx x = some k) : ¬ eN k = -1 := by
  unfold fdx at h
  split at h
  · cases h
  · exact pf_rec _ _ _ _ h
theorem rec_rel {pw of x y : Int32} (hpo : ¬ of = 0 ↔ pw = 0) (h : rl ol nx B eA eS eN Rc Sz Nm By) : recA pw eS eN ol nx x y = recM of Rc Sz Nm (nx - ol) x y := by
  rcases fd_rel (x := x) hpo h with ⟨g1, g2⟩ | ⟨j, g0, g1, g2, -⟩
  · rw [recA_n g1, recM_n g2]
  · obtain ⟨h1, -, h3, h4, -⟩ := h j g0
    rw [recA_s g1, recM_s g2, h3, h4 (fdx_rec g1)]
theorem byt_rel {pw of x y : Int32} (hpo : ¬ of = 0 ↔ pw = 0) (h : rl ol nx B eA eS eN Rc Sz Nm By) : bytA pw B eA eS eN ol nx x y = bytM of Rc Sz By (fun k => eS (ol + k)) (nx - ol) x y := by
  rcases fd_rel (x := x) hpo h with ⟨g1, g2⟩ | ⟨j, g0, g1, g2, -⟩
  · rw [bytA_n g1, bytM_n g2]
  · obtain ⟨-, -, -, -, h5⟩ := h j g0
    rw [bytA_s g1, bytM_s g2]
    split
    · rfl
    · refine bvl_congr 8 (fun b _ => ?_)
      unfold dby mby
      by_cases c : y.toNatClampNeg + b < eS (ol + j)
      · rw [if_pos c, if_pos c, Nat.add_assoc (100 * j), h5 _ c]
      · rw [if_neg c, if_neg c]
theorem cnt_rel {pw of x : Int32} {sz : Nat} (hpo : ¬ of = 0 ↔ pw = 0) (h : rl ol nx B eA eS eN Rc Sz Nm By) (h1 : ol ≤ nx) : cntV x (nI sz) (if pw = 0 then nI 0 else nI (mn eN ol (nx - ol))) (if pw = 0 then nI 0 else nI (us eS ol (nx - ol))) (nI nx) (if pw = 0 then nI 0 else nI 1) = cntV x (nI sz) (if of = 0 then nI (mn (qR Rc) 0 (nx - ol)) else nI 0) (if of = 0 then nI (us (fun k => eS (ol + k)) 0 (nx - ol)) else nI 0) (nI nx) (if of = 0 then nI 1 else nI 0) := by
  rw [rl_mn h (by omega), rl_us]
  by_cases c : pw = 0
  · have c2 : ¬ of = 0 := hpo.mpr c
    rw [if_pos c, if_pos c, if_pos c, if_neg c2, if_neg c2, if_neg c2]
  · have c2 : of = 0 := Classical.byContradiction (fun q => c (hpo.mp q))
    rw [if_neg c, if_neg c, if_neg c, if_pos c2, if_pos c2, if_pos c2]
/-- bytes of a kept entry stay -/
theorem rl_rows (hI : dI ol nx en rq B Rt eA eS eN) {B1 R1 Tp : Nat → Int32} {w bs ke n k i : Nat} {nu rc : Int32} (hw : wrote B Rt B1 R1 en nx w bs ke nu rc Tp) (hU : us eS ol (nx - ol) + n ≤ 40) (hwn : w ≤ n) (h1 : ol ≤ k) (h2 : k < nx) (hi : i < eS k) : r1 B1 ((eA k + i / 12) % 40) (8 + i % 12) = r1 B ((eA k + i / 12) % 40) (8 + i % 12) :=
  r1_kept (by omega) (hw.1 _ (Nat.mod_lt _ (by omega)) (fun j hj => apart hI hU h1 h2 (nd_ix hi) (by omega))).1
theorem rl_fail (hI : dI ol nx en rq B Rt eA eS eN) (h : rl ol nx B eA eS eN Rc Sz Nm By) {B1 R1 Tp : Nat → Int32} {w bs ke n : Nat} {nu rc : Int32} (hw : wrote B Rt B1 R1 en nx w bs ke nu rc Tp) (hU : us eS ol (nx - ol) + n ≤ 40) (hwn : w ≤ n) : rl ol nx B1 (va_up eA nx en) (va_up eS nx bs) (va_up eN nx nu) Rc Sz Nm By := by
  intro k hk
  rw [va_up_ne _ _ (by omega), va_up_ne _ _ (by omega), va_up_ne _ _ (by omega)]
  obtain ⟨h1, h2, h3, h4, h5⟩ := h k hk
  exact ⟨h1, h2, h3, h4, fun i hi => by rw [rl_rows hI hw hU hwn (by omega) hk hi]; exact h5 i hi⟩
theorem rl_write (hI : dI ol nx en rq B Rt eA eS eN) (h : rl ol nx B eA eS eN Rc Sz Nm By) {B1 R1 Tp T Y1 : Nat → Int32} {sz : Nat} {rc : Int32} (hw : wrote B Rt B1 R1 en nx (nd sz) sz ol rc rc Tp) (hU : us eS ol (nx - ol) + nd sz ≤ 40) (hsz : sz ≤ 100) (hrc : ¬ rc = -1) (hT : ∀ i, i < sz → T i = Tp i &&& 255) (hy1 : ∀ i, i < sz → Y1 (100 * (nx - ol) + i) = T i) (hy2 : ∀ q, (q < 100 * (nx - ol) ∨ 100 * (nx - ol) + 100 ≤ q) → Y1 q = By q) :
    rl ol (nx + 1) B1 (va_up eA nx en) (va_up eS nx sz) (va_up eN nx rc) (upd Rc (nx - ol) (nI 1)) (upd Sz (nx - ol) (nI sz)) (upd Nm (nx - ol) rc) Y1 := by
  have hon := hI.1.1
  intro k hk
  by_cases e : k = nx - ol
  · rw [show ol + k = nx by omega, va_up_self, va_up_self, va_up_self, e, pk_us, pk_us, pk_us]
    refine ⟨⟨fun q => absurd q hrc, fun q => absurd q (by decide)⟩, by decide, rfl, fun _ => rfl, fun i hi => ?_⟩
    rw [hy1 i hi, hT i hi]
    have hs := (hw.2 (i / 12) (nd_ix hi)).2.2.2.2.2.2 (i % 12) (by omega) (by omega)
    rw [show 12 * (i / 12) + i % 12 = i by omega] at hs
    unfold r1
    rw [← Nat.add_assoc, hs, by_and]
  · rw [va_up_ne _ _ (by omega), va_up_ne _ _ (by omega), va_up_ne _ _ (by omega), pk_un e, pk_un e, pk_un e]
    obtain ⟨h1, h2, h3, h4, h5⟩ := h k (by omega)
    refine ⟨h1, h2, h3, h4, fun i hi => ?_⟩
    have hs := hI.1.2.2.2.1 (ol + k)
    rw [rl_rows hI hw hU (Nat.le_refl _) (by omega) (by omega) hi, hy2 _ (by omega)]
    exact h5 i hi
/-- the first entry that is kept is the same on both sides -/
theorem drop_f (h : rl ol nx B eA eS eN Rc Sz Nm By) {d f j : Nat} {Rc1 : Nat → Int32} (h1 : ol ≤ nx) (hR : upd Rc (nx - ol) (nI 0) = Rc1) (hd : ol + d ≤ nx ∧ mn eN ol d = j ∧ (ol + d = nx ∨ ¬ eN (ol + d) = -1)) (hf0 : f ≤ nx - ol) (hf1 : f = nx - ol ∨ (¬ Rc1 f = 0 ∧ j ≤ mn (qR Rc1) 0 f)) (hf2 : ∀ k, k < f → ¬ Rc1 k = 0 → ¬ j ≤ mn (qR Rc1) 0 k) : f = d := by
  obtain ⟨d1, d2, d3⟩ := hd
  have hm : ∀ k, ol + k ≤ nx → mn (qR Rc1) 0 k = mn eN ol k := by
    intro k hk
    rw [← rl_mn h hk]
    refine mn_congr k (fun j hj => ?_)
    rw [Nat.zero_add, qR_iff, qR_iff, ← hR, pk_un (by omega)]
  have hc : ∀ k, ol + k < nx → (Rc1 k = 0 ↔ eN (ol + k) = -1) := by
    intro k hk
    rw [← hR, pk_un (by omega)]
    exact (h k hk).1.symm
  rcases Nat.lt_trichotomy d f with q | q | q
  · have e1 : ¬ eN (ol + d) = -1 := d3.resolve_left (by omega)
    have := hf2 d q (fun z => e1 ((hc d (by omega)).mp z))
    rw [hm d (by omega), d2] at this
    exact absurd (Nat.le_refl j) this
  · exact q.symm
  · obtain ⟨g1, g2⟩ := hf1.resolve_left (by omega)
    rw [hm f (by omega)] at g2
    have e1 : ¬ eN (ol + f) = -1 := fun z => g1 ((hc f (by omega)).mpr z)
    have e2 : mn eN ol (f + 1) = mn eN ol f + (if eN (ol + f) = -1 then 0 else 1) := rfl
    rw [if_neg e1] at e2
    have e3 := mn_mono eN ol (show f + 1 ≤ d by omega)
    omega
theorem drop_r {d j : Nat} (hd : ol + d ≤ nx ∧ mn eN ol d = j ∧ (ol + d = nx ∨ ¬ eN (ol + d) = -1)) : mn (va_up eN nx (-1)) (ol + d) (nx + 1 - (ol + d)) = mn eN ol (nx - ol) - j := by
  obtain ⟨d1, d2, -⟩ := hd
  have e1 : mn (va_up eN nx (-1)) (ol + d) (nx - (ol + d) + 1) = mn (va_up eN nx (-1)) (ol + d) (nx - (ol + d)) + (if va_up eN nx (-1) (ol + d + (nx - (ol + d))) = -1 then 0 else 1) := rfl
  rw [show ol + d + (nx - (ol + d)) = nx by omega, va_up_self, if_pos rfl, mn_up (m := nx - (ol + d)) (by omega)] at e1
  have e2 := mn_split eN ol d (nx - (ol + d))
  rw [show d + (nx - (ol + d)) = nx - ol by omega] at e2
  rw [show nx + 1 - (ol + d) = nx - (ol + d) + 1 by omega, e1]
  omega
theorem rl_drop (hI : dI ol nx en rq B Rt eA eS eN) (h : rl ol nx B eA eS eN Rc Sz Nm By) {B1 R1 Tp Rc1 Sz1 Rc2 Sz2 Nm2 By2 : Nat → Int32} {d ke : Nat} {rc : Int32} (hw : wrote B Rt B1 R1 en nx (nd 0) 0 ke (-1) rc Tp) (hU : us eS ol (nx - ol) + 1 ≤ 40) (hd : ol + d ≤ nx) (hR : upd Rc (nx - ol) (nI 0) = Rc1) (hZ : upd Sz (nx - ol) (nI 0) = Sz1) (hm : mvd d (nx - ol + 1 - d) (va_up (fun k => eS (ol + k)) (nx - ol) 0) Rc1 Sz1 Nm By Rc2 Sz2 Nm2 By2) :
    rl (ol + d) (nx + 1) B1 (va_up eA nx en) (va_up eS nx 0) (va_up eN nx (-1)) Rc2 Sz2 Nm2 By2 := by
  have hon := hI.1.1
  intro k hk
  obtain ⟨m1, m2, m3, m4⟩ := hm.1 k (by omega)
  rw [m1, m2, m3, ← hR, ← hZ]
  by_cases e : d + k = nx - ol
  · rw [show ol + d + k = nx by omega, va_up_self, va_up_self, va_up_self, e, pk_us, pk_us]
    exact ⟨⟨fun _ => nI_0, fun _ => rfl⟩, by decide, rfl, fun q => absurd rfl q, fun i hi => absurd hi (Nat.not_lt_zero i)⟩
  · rw [va_up_ne _ _ (by omega), va_up_ne _ _ (by omega), va_up_ne _ _ (by omega), pk_un e, pk_un e]
    obtain ⟨h1, h2, h3, h4, h5⟩ := h (d + k) (by omega)
    rw [← Nat.add_assoc] at h1 h3 h4 h5
    refine ⟨h1, h2, h3, h4, fun i hi => ?_⟩
    rw [m4 i (by rw [va_up_ne _ _ e]; show i < eS (ol + (d + k)); rw [← Nat.add_assoc]; exact hi), rl_rows hI hw (n := 1) hU (by decide) (by omega) (by omega) hi]
    exact h5 i hi
end RL
end
section
/-! what holds between the law's calls -/
def lI (N sz : Nat) (cu pw : Int32) (ol nx en rq : Nat) (B Rt Tp : Nat → Int32) (eA eS : Nat → Nat) (eN : Nat → Int32) (of : Int32) (T Rc Sz Nm By : Nat → Int32) : Prop :=
  dI ol nx en rq B Rt eA eS eN ∧ rl ol nx B eA eS eN Rc Sz Nm By ∧ sz ≤ 100 ∧ (∀ i, i < sz → T i = Tp i &&& 255) ∧ (cu = -1 ∨ ∃ q : Nat, q ≤ 8 ∧ cu = nI q) ∧ ((pw = nI 1 ∧ of = nI 0) ∨ (pw = nI 0 ∧ of = nI 1)) ∧ nx ≤ N
section LI
variable {N sz : Nat} {cu pw : Int32} {ol nx en rq : Nat} {B Rt Tp : Nat → Int32} {eA eS : Nat → Nat} {eN : Nat → Int32} {of : Int32} {T Rc Sz Nm By : Nat → Int32}
theorem lI_mono (h : lI N sz cu pw ol nx en rq B Rt Tp eA eS eN of T Rc Sz Nm By) : lI (N + 1) sz cu pw ol nx en rq B Rt Tp eA eS eN of T Rc Sz Nm By := by
  obtain ⟨h1, h2, h3, h4, h5, h6, h7⟩ := h
  exact ⟨h1, h2, h3, h4, h5, h6, by omega⟩
theorem lI_po (h : lI N sz cu pw ol nx en rq B Rt Tp eA eS eN of T Rc Sz Nm By) : ¬ of = 0 ↔ pw = 0 := by
  rcases h.2.2.2.2.2.1 with ⟨rfl, rfl⟩ | ⟨rfl, rfl⟩
  · exact ⟨fun q => absurd nI_0 q, fun q => absurd q (by decide)⟩
  · exact ⟨fun _ => nI_0, fun _ => by decide⟩
theorem lI_of (h : lI N sz cu pw ol nx en rq B Rt Tp eA eS eN of T Rc Sz Nm By) (hp : ¬ pw = 0) : of = 0 := Classical.byContradiction (fun q => hp ((lI_po h).mp q))
theorem lI_write {B1 R1 Y1 : Nat → Int32} (h : lI N sz cu pw ol nx en rq B Rt Tp eA eS eN of T Rc Sz Nm By) (hn : N < 512) (hU : us eS ol (nx - ol) + nd sz ≤ 40) (hw : wrote B Rt B1 R1 en nx (nd sz) sz ol (nI rq) (nI rq) Tp) (hy1 : ∀ i, i < sz → Y1 (100 * (nx - ol) + i) = T i) (hy2 : ∀ q, (q < 100 * (nx - ol) ∨ 100 * (nx - ol) + 100 ≤ q) → Y1 q = By q) :
    lI (N + 1) 0 (-1) pw ol (nx + 1) ((en + nd sz) % 40) (rq + 1) B1 R1 Tp (va_up eA nx en) (va_up eS nx sz) (va_up eN nx (nI rq)) of T (upd Rc (nx - ol) (nI 1)) (upd Sz (nx - ol) (nI sz)) (upd Nm (nx - ol) (nI rq)) Y1 := by
  obtain ⟨h1, h2, h3, h4, h5, h6, h7⟩ := h
  have hr := h1.1.2.2.1
  have hno : ¬ nI rq = -1 := nI_nm1 (by omega)
  have hd := dI_app h1 (by omega) hw hU h3 (fun q => absurd q hno) (fun _ => rfl) (Nat.le_refl _) h1.1.1
  rw [if_neg hno] at hd
  exact ⟨hd, rl_write h1 h2 hw hU h3 hno h4 hy1 hy2, by omega, fun i hi => absurd hi (Nat.not_lt_zero i), Or.inl rfl, h6, by omega⟩
theorem lI_fail {B1 R1 : Nat → Int32} {w bs ke : Nat} {nu rc : Int32} (h : lI N sz cu pw ol nx en rq B Rt Tp eA eS eN of T Rc Sz Nm By) (hn : N < 512) (hU : us eS ol (nx - ol) + nd bs ≤ 40) (hb : bs ≤ 100) (hnb : nu = -1 → bs = 0) (hwl : w < nd bs) (hw : wrote B Rt B1 R1 en nx w bs ke nu rc Tp) (sz1 : Nat) (hs1 : sz1 ≤ sz) :
    lI (N + 1) sz1 (-1) (nI 0) ol nx en rq B1 (upd R1 ((en + w) % 40) (nI 0)) Tp (va_up eA nx en) (va_up eS nx bs) (va_up eN nx nu) (nI 1) T Rc Sz Nm By := by
  obtain ⟨h1, h2, h3, h4, h5, h6, h7⟩ := h
  exact ⟨dI_fail h1 (by omega) hw hU hb hnb hwl, rl_fail h1 h2 hw hU (by omega), by omega, fun i hi => h4 i (by omega), Or.inl rfl, Or.inr ⟨rfl, rfl⟩, by omega⟩
theorem lI_drop {B1 R1 Rc1 Sz1 Rc2 Sz2 Nm2 By2 : Nat → Int32} {d f j : Nat} (h : lI N sz cu pw ol nx en rq B Rt Tp eA eS eN of T Rc Sz Nm By) (hn : N < 512) (hU : us eS ol (nx - ol) + 1 ≤ 40) (hw : wrote B Rt B1 R1 en nx (nd 0) 0 (ol + d) (-1) (nI rq) Tp) (hd : ol + d ≤ nx ∧ mn eN ol d = j ∧ (ol + d = nx ∨ ¬ eN (ol + d) = -1)) (hR : upd Rc (nx - ol) (nI 0) = Rc1) (hZ : upd Sz (nx - ol) (nI 0) = Sz1) (hf : f = d) (hm : mvd f (nx - ol + 1 - f) (va_up (fun k => eS (ol + k)) (nx - ol) 0) Rc1 Sz1 Nm By Rc2 Sz2 Nm2 By2) :
    lI (N + 1) sz (-1) pw (ol + d) (nx + 1) ((en + nd 0) % 40) rq B1 R1 Tp (va_up eA nx en) (va_up eS nx 0) (va_up eN nx (-1)) of T Rc2 Sz2 Nm2 By2 := by
  subst hf
  obtain ⟨h1, h2, h3, h4, h5, h6, h7⟩ := h
  have hdd := dI_app h1 (by omega) hw hU (by omega) (fun _ => rfl) (fun q => absurd rfl q) (by omega) hd.1
  rw [if_pos rfl, Nat.add_zero] at hdd
  exact ⟨hdd, rl_drop h1 h2 hw hU hd.1 hR hZ hm, h3, h4, Or.inl rfl, h6, by omega⟩
theorem lI_put {T1 T2 : Nat → Int32} {v : Int64} {j : Nat} (h : lI N sz cu pw ol nx en rq B Rt Tp eA eS eN of T Rc Sz Nm By) (h3 : sz + j ≤ 100) (a1 : ∀ i, i < sz → T1 i = Tp i) (a2 : ∀ i, i < j → T1 (sz + i) = (pb v (j - 1 - i)).toInt8.toInt32) (b1 : ∀ i, i < sz → T2 i = T i) (b2 : ∀ i, i < j → T2 (sz + i) = pb v (j - 1 - i) &&& 255) :
    lI (N + 1) (sz + j) cu pw ol nx en rq B Rt T1 eA eS eN of T2 Rc Sz Nm By := by
  obtain ⟨h1, h2, -, h4, h5, h6, h7⟩ := h
  refine ⟨h1, h2, h3, fun i hi => ?_, h5, h6, by omega⟩
  by_cases q : i < sz
  · rw [a1 i q, b1 i q]
    exact h4 i q
  · have ea := a2 (i - sz) (by omega)
    have eb := b2 (i - sz) (by omega)
    rw [show sz + (i - sz) = i by omega] at ea eb
    rw [ea, eb, by_and]
theorem lI_cut {x : Int32} (h : lI N sz cu pw ol nx en rq B Rt Tp eA eS eN of T Rc Sz Nm By) : lI (N + 1) sz (if x < -1 ∨ 8 < x then cu else x) pw ol nx en rq B Rt Tp eA eS eN of T Rc Sz Nm By := by
  obtain ⟨h1, h2, h3, h4, h5, h6, h7⟩ := h
  refine ⟨h1, h2, h3, h4, ?_, h6, by omega⟩
  by_cases c : x < -1 ∨ 8 < x
  · rw [if_pos c]
    exact h5
  · rw [if_neg c]
    by_cases c2 : x < 0
    · left
      have h8 : ¬ x < -1 := fun q => c (Or.inl q)
      apply Int32.toInt_inj.mp
      rw [Int32.lt_iff_toInt_lt] at h8 c2
      have e1 : ((-1 : Int32)).toInt = -1 := by decide
      have e0 : ((0 : Int32)).toInt = 0 := by decide
      omega
    · right
      obtain ⟨j, hj, e⟩ := nI_of2 (x := x) (M := 8) (n := 8) rfl c2 (Int32.not_lt.mp (fun q => c (Or.inr q)))
      exact ⟨j, hj, e⟩
theorem lI_start (h : lI N sz cu pw ol nx en rq B Rt Tp eA eS eN of T Rc Sz Nm By) : lI (N + 1) sz cu (nI 1) ol nx en rq B Rt Tp eA eS eN (nI 0) T Rc Sz Nm By := by
  obtain ⟨h1, h2, h3, h4, h5, -, h7⟩ := h
  exact ⟨h1, h2, h3, h4, h5, Or.inl ⟨rfl, rfl⟩, by omega⟩
theorem lI_0 : lI 0 0 (-1) (nI 1) 0 0 0 0 (fun _ => 0) (fun _ => 0) (fun _ => 0) (fun _ => 0) (fun _ => 0) (fun _ => 0) 0 (fun _ => 0) (fun _ => 0) (fun _ => 0) (fun _ => 0) (fun _ => 0) := by
  refine ⟨⟨⟨Nat.le_refl _, by omega, Nat.le_refl _, fun _ => Nat.zero_le _, fun _ => (by decide : 0 < 40)⟩, fun _ => ⟨rfl, rfl⟩, fun q => absurd q (by omega), by decide, fun d hd => absurd hd (by omega), fun q => absurd q (by omega), fun k _ k2 => absurd k2 (Nat.not_lt_zero k), fun q => absurd q (by omega), fun t _ q => absurd rfl q, fun q => q.1 rfl⟩, fun k hk => absurd hk (by omega), by omega, fun i hi => absurd hi (Nat.not_lt_zero i), Or.inl rfl, Or.inl ⟨rfl, rfl⟩, Nat.le_refl _⟩
end LI
section LWS
variable {cs : Nat → ClassId} {ad bd : Nat → Nat} {sz : Nat} {cu pw : Int32} {ol nx en : Nat} {rc : Int32} {B Rt Tp : Nat → Int32} {eA eS : Nat → Nat} {eN : Nat → Int32} {td kp : Nat} {mx wh of mu : Int32} {T Rc Sz Nm By : Nat → Int32}
/-- the two worlds side by side, either first -/
theorem dm_pm : (dW cs ad sz cu pw ol nx en rc B Rt Tp eA eS eN (mW cs bd td kp mx wh of mu T Rc Sz Nm By [])).Perm (mW cs bd td kp mx wh of mu T Rc Sz Nm By (dW cs ad sz cu pw ol nx en rc B Rt Tp eA eS eN [])) := by
  have e : dW cs ad sz cu pw ol nx en rc B Rt Tp eA eS eN (mW cs bd td kp mx wh of mu T Rc Sz Nm By []) = dW cs ad sz cu pw ol nx en rc B Rt Tp eA eS eN [] ++ mW cs bd td kp mx wh of mu T Rc Sz Nm By [] := by
    simp only [dW, List.cons_append, List.append_nil]
  rw [e]
  exact List.perm_append_comm
end LWS
end
section
/-! THE CLAIM OUT OF ONE WALK OF THE LAW'S BODY. Your part is whole_start (and what it stands on); all else here is the same for every law, but numbers. -/
def R_law : String := "JournalDeskLaw"
def lw_P (b : Addr) (xs : List Int32) (args : Array Value) (s : State) : Prop := args = #[.ref b] ∧ s.IntsAt b xs ∧ xs.length ≤ 2048 ∧ (Jvm.Cond.and given_1 narrow_1).before args s = true
def lw_Q (_ : Array Value) (s : State) (o : Outcome) (t : State) : Prop := o = .returned (some (.int 1)) ∧ Framed s o t [] 600000 7302250
def lw_Z (below : List Frame) (a : Array Value) (s : State) : State → Prop := fun t => ∃ o, t.status = .running ∧ Ended t below o ∧ lw_Q a s o t
/-- the law's own end, with 1 on the stack, nothing written that was there before, its room as the claim has it -/
theorem lw_ret {p : Program} {l : Launch} {e : Env} {s : State} {m : MethodId} {below : List Frame} {meth : Method} {c : Code} {b : Nat} (hx : p.tables.exec = Jvm.exec) (hb : c.code = code) (hr : meth.sig.returnType = ret) (hlocks : meth.locks = false) {pc : Nat} {H : Heap} {ls : Array Slot} (hdg : decode code pc = .ok (.ireturn, 1)) : W p l e room_1 s m #[Value.ref b] below meth c H [] 600000 7302250 (lw_Z below #[Value.ref b] s) (F0 m pc ls [.int 1]) := by
  intro T hT X
  obtain ⟨fs, hret, hrun, hended, hW, hframe⟩ := X.leave (v := some (.int 1)) (hlocks := hlocks) (fun h => by rw [hr] at h; cases h)
  have hmeth' : T.vm.method? m = some meth := X.method'
  refine ⟨T.setFrames fs, ?_, .returned (some (.int 1)), hrun, hended, rfl, ⟨_, rfl⟩, hW, hframe⟩
  jvm_step X.here [X.here.top, hx, hb, hdg, hmeth', hr, ret, narrow_b1]
  (try refine ⟨rfl, ?_⟩); (try refine ⟨rfl, ?_⟩)
  first | (intro acts; rw [hret _ acts rfl rfl rfl]) | rw [hret _ _ rfl rfl rfl]
  exact Steps.refl _
/-- what holds at the law's entry: the machine, the code, the tables' words (any of lw_tbl by 'hts w (by decide +kernel)'), the script of L ints xs at the cell b, what the Statement gives of the start (any of its parts by flat_of_before) -/
def lw_At (p : Program) (s : State) (m : MethodId) (meth : Method) (c : Code) (b L : Nat) (xs : Nat → Int32) : Prop :=
  p.tables.exec = Jvm.exec ∧ c.code = code ∧ meth.sig.returnType = ret ∧ c.maxLocals = 4 ∧ s.vm.findClass R_law = some m.cls ∧ (∀ w ∈ lw_tbl, w.before #[Value.ref b] s = true) ∧ va_X b L xs s s.heap ∧ b < s.heap.size ∧ meth.locks = false ∧ (Jvm.Cond.and given_1 narrow_1).before #[Value.ref b] s = true
/-- at the pc, with x3 in the law's own counter: from every state where desk and model hold the same, the law comes to its end -/
def LAt (p : Program) (l : Launch) (e : Env) (s : State) (m : MethodId) (below : List Frame) (meth : Method) (c : Code) (D : va_G) (cs : Nat → ClassId) (A : Nat → Prop) (b pc x3 N : Nat) : Prop := ∀ (ad bd : Nat → Nat) (sz : Nat) (cu pw : Int32) (ol nx en rq : Nat) (B Rt Tp : Nat → Int32) (eA eS : Nat → Nat) (eN : Nat → Int32) (of : Int32) (T Rc Sz Nm By : Nat → Int32), lI N sz cu pw ol nx en rq B Rt Tp eA eS eN of T Rc Sz Nm By → ∀ (H : Heap) (locs : List Loc), va_P D classes (dW cs ad sz cu pw ol nx en (nI rq) B Rt Tp eA eS eN (mW cs bd sz (nx - ol) (nI rq) (nI nx) of cu T Rc Sz Nm By ([]))) H → va_D A (dW cs ad sz cu pw ol nx en (nI rq) B Rt Tp eA eS eN (mW cs bd sz (nx - ol) (nI rq) (nI nx) of cu T Rc Sz Nm By ([]))) → va_S A s.heap H locs → ∀ ls : Array Slot, lv_has ls 4 [(0, .ref b), (1, .ref (ad 0)), (2, .ref (bd 0)), (3, .int (nI x3))] → W p l e room_1 s m #[Value.ref b] below meth c H locs 532 7366 (lw_Z below #[Value.ref b] s) (F0 m pc ls [])
theorem lg_same (x : Int64) : lg_cmp x x = 0 := by
  have h : ¬ x < x := fun q => lg_lt_not q q
  simp [lg_cmp, h]
theorem n_sld {p : Program} {l : Launch} {e : Env} {R : Room} {s : State} {m : MethodId} {args : Array Value} {below : List Frame} {meth : Method} {c : Code} {H : Heap} {locs : List Loc} {cells slots : Nat} {Q : State → Prop} {cc : ByteArray} {pc : Nat} {ls : Array Slot} {rest : List Value} {A : Nat → Prop} {H0 : Heap} (hx : p.tables.exec = Jvm.exec) (hb : c.code = cc) {b L j : Nat} {xs : Nat → Int32} (hX : va_X b L xs s H0) (hbl : b < H0.size) (hbA : ¬ A b) (hS : va_S A H0 H locs) (hj : j < L) (hL : L < 2 ^ 31) (hdg : decode cc pc = .ok (.iaload, 1))
    (kk : W p l e R s m args below meth c H locs cells slots Q (F0 m (pc + 1) ls (.int (xs j) :: rest))) : W p l e R s m args below meth c H locs cells slots Q (F0 m pc ls (.int (nI j) :: .ref b :: rest)) := va_sld hx hb hX hbl hbA hS (vp_in_nI hj hL) hdg (by rw [nI_clamp (Nat.lt_trans hj hL)]; exact kk)
set_option maxHeartbeats 4000000 in
set_option maxRecDepth 100000 in
/-- write -/
theorem op_write {p : Program} {l : Launch} {e : Env} {s : State} {m : MethodId} {below : List Frame} {meth : Method} {c : Code} {D : va_G} {cs : Nat → ClassId} {A : Nat → Prop} {b L i : Nat} {xs : Nat → Int32} (hB : Bd p s m #[Value.ref b] c code "JournalDeskLaw" 4 D cs) (hX : va_X b L xs s s.heap) (hbl : b < s.heap.size) (hbA : ¬ A b) (hL : L ≤ 2048) (hi : 4 * i + 3 < L) (hn : LAt p l e s m below meth c D cs A b 305 (4 * i) (i + 1)) : LAt p l e s m below meth c D cs A b 143 (4 * i) i := by
  intro ad bd sz cu pw ol nx en rq B Rt Tp eA eS eN of T Rc Sz Nm By hI H locs hP hD hS ls hl
  have hx := hB.1
  have hb := hB.2.1
  have hown := hB.2.2.2.1
  have hts := hB.2.2.2.2.1
  have hK := hB.2.2.2.2.2.1
  have hdI := hI.1
  have hrl := hI.2.1
  have hsz := hI.2.2.1
  have hnx := hI.2.2.2.2.2.2
  have hpo := lI_po hI
  have hon := hdI.1.1
  have hrq := hdI.1.2.2.1
  have hen := hdI.1.2.1
  have hsS := hdI.1.2.2.2.1
  have haA := hdI.1.2.2.2.2
  have hkp := rl_kp hdI
  have hz := rl_hz hdI hrl
  have hsM : ∀ k, (fun k => eS (ol + k)) k ≤ 100 := fun k => hsS (ol + k)
  by_cases hroom : ¬ pw = 0 ∧ us eS ol (nx - ol) + nd sz ≤ 40
  · have hroomM : of = 0 ∧ us (fun k => eS (ol + k)) 0 (nx - ol) + nd sz ≤ 40 := ⟨lI_of hI hroom.1, by rw [rl_us]; exact hroom.2⟩
    rcases hI.2.2.2.2.1 with rfl | ⟨q, hq, rfl⟩
    · skip
      refine lv_aload_n hx hb d_law_143 rfl (lv_at hl 1 rfl) ?_
      refine x_cQi (As := []) (rest := []) (n := 0) hB (c_D_write l (cu := 0) (q := 0) (rq := rq) hon (by omega) hsS hsz hen (by omega) rfl hroom) gi_L_20 (by decide +kernel) rfl rfl ⟨Nat.le_of_ble_eq_true rfl, Nat.le_of_ble_eq_true rfl⟩ hP hD hS 0 rfl rfl hl.1 rfl (Nat.le_of_ble_eq_true rfl) d_law_144 ⟨Nat.le_of_ble_eq_true rfl, Nat.le_of_ble_eq_true rfl⟩ (fun r w H locs hw hP hD hS => ?_)
      obtain ⟨rfl, B1, R1, rfl, hwr⟩ := hw
      refine lv_aload_n hx hb d_law_147 rfl (lv_at hl 2 rfl) ?_
      have hP := pm_P dm_pm hP
      have hD := pm_D dm_pm hD
      have hP : va_P D classes (mW cs bd sz (nx - ol) (nI rq) (nI nx) of (-1) T Rc Sz Nm By (dW cs ad 0 (-1) pw ol (nx + 1) ((en + nd sz) % 40) (nI rq + 1) B1 R1 Tp (va_up eA nx en) (va_up eS nx sz) (va_up eN nx (nI rq)) ([]))) H := hP
      have hD : va_D A (mW cs bd sz (nx - ol) (nI rq) (nI nx) of (-1) T Rc Sz Nm By (dW cs ad 0 (-1) pw ol (nx + 1) ((en + nd sz) % 40) (nI rq + 1) B1 R1 Tp (va_up eA nx en) (va_up eS nx sz) (va_up eN nx (nI rq)) ([]))) := hD
      refine x_cQi (As := []) (rest := [.int (nI rq)]) (n := 0) hB (c_M_write l (cu := 0) (q := 0) (sN := fun k => eS (ol + k)) hkp hsz hsM hz hroomM) gi_L_24 (by decide +kernel) rfl rfl ⟨Nat.le_of_ble_eq_true rfl, Nat.le_of_ble_eq_true rfl⟩ hP hD hS 0 rfl rfl hl.1 rfl (Nat.le_of_ble_eq_true rfl) d_law_148 ⟨Nat.le_of_ble_eq_true rfl, Nat.le_of_ble_eq_true rfl⟩ (fun r w H locs hw hP hD hS => ?_)
      obtain ⟨rfl, Y1, rfl, hy1, hy2⟩ := hw
      have hP : va_P D classes (mW cs bd 0 (nx - ol + 1) (nI rq + 1) (nI nx + 1) of (-1) T (upd Rc (nx - ol) (nI 1)) (upd Sz (nx - ol) (nI sz)) (upd Nm (nx - ol) (nI rq)) Y1 (dW cs ad 0 (-1) pw ol (nx + 1) ((en + nd sz) % 40) (nI rq + 1) B1 R1 Tp (va_up eA nx en) (va_up eS nx sz) (va_up eN nx (nI rq)) ([]))) H := hP
      have hD : va_D A (mW cs bd 0 (nx - ol + 1) (nI rq + 1) (nI nx + 1) of (-1) T (upd Rc (nx - ol) (nI 1)) (upd Sz (nx - ol) (nI sz)) (upd Nm (nx - ol) (nI rq)) Y1 (dW cs ad 0 (-1) pw ol (nx + 1) ((en + nd sz) % 40) (nI rq + 1) B1 R1 Tp (va_up eA nx en) (va_up eS nx sz) (va_up eN nx (nI rq)) ([]))) := hD
      have hP := pm_P dm_pm.symm hP
      have hD := pm_D dm_pm.symm hD
      have hP : va_P D classes (dW cs ad 0 (-1) pw ol (nx + 1) ((en + nd sz) % 40) (nI rq + 1) B1 R1 Tp (va_up eA nx en) (va_up eS nx sz) (va_up eN nx (nI rq)) (mW cs bd 0 (nx - ol + 1) (nI rq + 1) (nI nx + 1) of (-1) T (upd Rc (nx - ol) (nI 1)) (upd Sz (nx - ol) (nI sz)) (upd Nm (nx - ol) (nI rq)) Y1 ([]))) H := hP
      have hD : va_D A (dW cs ad 0 (-1) pw ol (nx + 1) ((en + nd sz) % 40) (nI rq + 1) B1 R1 Tp (va_up eA nx en) (va_up eS nx sz) (va_up eN nx (nI rq)) (mW cs bd 0 (nx - ol + 1) (nI rq + 1) (nI nx + 1) of (-1) T (upd Rc (nx - ol) (nI 1)) (upd Sz (nx - ol) (nI sz)) (upd Nm (nx - ol) (nI rq)) Y1 ([]))) := hD
      refine lv_icmp_eq (tgt := 305) hx hb d_law_151 (by decide) (fun hc151 => ?_) (fun hc151 => (absurd rfl hc151))
      rw [nI_1, nI_1, show nx - ol + 1 = nx + 1 - ol by omega] at hP hD
      exact hn ad bd 0 (-1) pw ol (nx + 1) ((en + nd sz) % 40) (rq + 1) B1 R1 Tp (va_up eA nx en) (va_up eS nx sz) (va_up eN nx (nI rq)) of T (upd Rc (nx - ol) (nI 1)) (upd Sz (nx - ol) (nI sz)) (upd Nm (nx - ol) (nI rq)) Y1 (lI_write hI (by omega) hroom.2 hwr hy1 hy2) _ _ hP hD hS ls (lv_sub hl [0, 1, 2, 3] rfl)
    · skip
      refine lv_aload_n hx hb d_law_143 rfl (lv_at hl 1 rfl) ?_
      refine x_cQi (As := []) (rest := []) (n := 0) hB (c_D_writeC l (cu := 0) (q := q) (rq := rq) hon (by omega) hsS hsz hen (by omega) rfl hq hroom) gi_L_20 (by decide +kernel) rfl rfl ⟨Nat.le_of_ble_eq_true rfl, Nat.le_of_ble_eq_true rfl⟩ hP hD hS 0 rfl rfl hl.1 rfl (Nat.le_of_ble_eq_true rfl) d_law_144 ⟨Nat.le_of_ble_eq_true rfl, Nat.le_of_ble_eq_true rfl⟩ (fun r w H locs hw hP hD hS => ?_)
      obtain ⟨rfl, B1, R1, rfl, hwr⟩ := hw
      refine lv_aload_n hx hb d_law_147 rfl (lv_at hl 2 rfl) ?_
      have hP := pm_P dm_pm hP
      have hD := pm_D dm_pm hD
      have hP : va_P D classes (mW cs bd sz (nx - ol) (nI rq) (nI nx) of (nI q) T Rc Sz Nm By (dW cs ad 0 (-1) (nI 0) ol nx en (nI rq) B1 (upd R1 ((en + (min q (nd sz - 1))) % 40) (nI 0)) Tp (va_up eA nx en) (va_up eS nx sz) (va_up eN nx (nI rq)) ([]))) H := hP
      have hD : va_D A (mW cs bd sz (nx - ol) (nI rq) (nI nx) of (nI q) T Rc Sz Nm By (dW cs ad 0 (-1) (nI 0) ol nx en (nI rq) B1 (upd R1 ((en + (min q (nd sz - 1))) % 40) (nI 0)) Tp (va_up eA nx en) (va_up eS nx sz) (va_up eN nx (nI rq)) ([]))) := hD
      refine x_cQi (As := []) (rest := [.int (-2)]) (n := 0) hB (c_M_writeC l (cu := 0) (q := q) (sN := fun k => eS (ol + k)) hkp hsz hsM hz hq hroomM) gi_L_24 (by decide +kernel) rfl rfl ⟨Nat.le_of_ble_eq_true rfl, Nat.le_of_ble_eq_true rfl⟩ hP hD hS 0 rfl rfl hl.1 rfl (Nat.le_of_ble_eq_true rfl) d_law_148 ⟨Nat.le_of_ble_eq_true rfl, Nat.le_of_ble_eq_true rfl⟩ (fun r w H locs hw hP hD hS => ?_)
      obtain ⟨rfl, rfl⟩ := hw
      have hP : va_P D classes (mW cs bd 0 (nx - ol) (nI rq) (nI nx) (nI 1) (-1) T Rc Sz Nm By (dW cs ad 0 (-1) (nI 0) ol nx en (nI rq) B1 (upd R1 ((en + (min q (nd sz - 1))) % 40) (nI 0)) Tp (va_up eA nx en) (va_up eS nx sz) (va_up eN nx (nI rq)) ([]))) H := hP
      have hD : va_D A (mW cs bd 0 (nx - ol) (nI rq) (nI nx) (nI 1) (-1) T Rc Sz Nm By (dW cs ad 0 (-1) (nI 0) ol nx en (nI rq) B1 (upd R1 ((en + (min q (nd sz - 1))) % 40) (nI 0)) Tp (va_up eA nx en) (va_up eS nx sz) (va_up eN nx (nI rq)) ([]))) := hD
      have hP := pm_P dm_pm.symm hP
      have hD := pm_D dm_pm.symm hD
      have hP : va_P D classes (dW cs ad 0 (-1) (nI 0) ol nx en (nI rq) B1 (upd R1 ((en + (min q (nd sz - 1))) % 40) (nI 0)) Tp (va_up eA nx en) (va_up eS nx sz) (va_up eN nx (nI rq)) (mW cs bd 0 (nx - ol) (nI rq) (nI nx) (nI 1) (-1) T Rc Sz Nm By ([]))) H := hP
      have hD : va_D A (dW cs ad 0 (-1) (nI 0) ol nx en (nI rq) B1 (upd R1 ((en + (min q (nd sz - 1))) % 40) (nI 0)) Tp (va_up eA nx en) (va_up eS nx sz) (va_up eN nx (nI rq)) (mW cs bd 0 (nx - ol) (nI rq) (nI nx) (nI 1) (-1) T Rc Sz Nm By ([]))) := hD
      refine lv_icmp_eq (tgt := 305) hx hb d_law_151 (by decide) (fun hc151 => ?_) (fun hc151 => (absurd rfl hc151))
      exact hn ad bd 0 (-1) (nI 0) ol nx en rq B1 (upd R1 ((en + (min q (nd sz - 1))) % 40) (nI 0)) Tp (va_up eA nx en) (va_up eS nx sz) (va_up eN nx (nI rq)) (nI 1) T Rc Sz Nm By (lI_fail hI (by omega) hroom.2 hsz (fun z => absurd z (nI_nm1 (by omega))) (by have := nd_pos sz; omega) hwr 0 (Nat.zero_le _)) _ _ hP hD hS ls (lv_sub hl [0, 1, 2, 3] rfl)
  · skip
    refine lv_aload_n hx hb d_law_143 rfl (lv_at hl 1 rfl) ?_
    refine x_cQi (As := []) (rest := []) (n := 0) hB (c_D_writeN l (q := 0) (rq := rq) hon (by omega) hsS hsz hen (by omega) rfl hroom) gi_L_20 (by decide +kernel) rfl rfl ⟨Nat.le_of_ble_eq_true rfl, Nat.le_of_ble_eq_true rfl⟩ hP hD hS 0 rfl rfl hl.1 rfl (Nat.le_of_ble_eq_true rfl) d_law_144 ⟨Nat.le_of_ble_eq_true rfl, Nat.le_of_ble_eq_true rfl⟩ (fun r w H locs hw hP hD hS => ?_)
    obtain ⟨rfl, rfl⟩ := hw
    refine lv_aload_n hx hb d_law_147 rfl (lv_at hl 2 rfl) ?_
    have hP := pm_P dm_pm hP
    have hD := pm_D dm_pm hD
    have hP : va_P D classes (mW cs bd sz (nx - ol) (nI rq) (nI nx) of cu T Rc Sz Nm By (dW cs ad sz cu pw ol nx en (nI rq) B Rt Tp eA eS eN ([]))) H := hP
    have hD : va_D A (mW cs bd sz (nx - ol) (nI rq) (nI nx) of cu T Rc Sz Nm By (dW cs ad sz cu pw ol nx en (nI rq) B Rt Tp eA eS eN ([]))) := hD
    refine x_cQi (As := []) (rest := [.int (-1)]) (n := 0) hB (c_M_writeN l (q := 0) (sN := fun k => eS (ol + k)) hkp hsz hsM hz (fun z => hroom ⟨fun y => hpo.mpr y z.1, by have := z.2; rw [rl_us] at this; exact this⟩)) gi_L_24 (by decide +kernel) rfl rfl ⟨Nat.le_of_ble_eq_true rfl, Nat.le_of_ble_eq_true rfl⟩ hP hD hS 0 rfl rfl hl.1 rfl (Nat.le_of_ble_eq_true rfl) d_law_148 ⟨Nat.le_of_ble_eq_true rfl, Nat.le_of_ble_eq_true rfl⟩ (fun r w H locs hw hP hD hS => ?_)
    obtain ⟨rfl, rfl⟩ := hw
    have hP : va_P D classes (mW cs bd sz (nx - ol) (nI rq) (nI nx) of cu T Rc Sz Nm By (dW cs ad sz cu pw ol nx en (nI rq) B Rt Tp eA eS eN ([]))) H := hP
    have hD : va_D A (mW cs bd sz (nx - ol) (nI rq) (nI nx) of cu T Rc Sz Nm By (dW cs ad sz cu pw ol nx en (nI rq) B Rt Tp eA eS eN ([]))) := hD
    have hP := pm_P dm_pm.symm hP
    have hD := pm_D dm_pm.symm hD
    have hP : va_P D classes (dW cs ad sz cu pw ol nx en (nI rq) B Rt Tp eA eS eN (mW cs bd sz (nx - ol) (nI rq) (nI nx) of cu T Rc Sz Nm By ([]))) H := hP
    have hD : va_D A (dW cs ad sz cu pw ol nx en (nI rq) B Rt Tp eA eS eN (mW cs bd sz (nx - ol) (nI rq) (nI nx) of cu T Rc Sz Nm By ([]))) := hD
    refine lv_icmp_eq (tgt := 305) hx hb d_law_151 (by decide) (fun hc151 => ?_) (fun hc151 => (absurd rfl hc151))
    exact hn ad bd sz cu pw ol nx en rq B Rt Tp eA eS eN of T Rc Sz Nm By (lI_mono hI) _ _ hP hD hS ls (lv_sub hl [0, 1, 2, 3] rfl)
set_option maxHeartbeats 4000000 in
set_option maxRecDepth 100000 in
/-- put -/
theorem op_put {p : Program} {l : Launch} {e : Env} {s : State} {m : MethodId} {below : List Frame} {meth : Method} {c : Code} {D : va_G} {cs : Nat → ClassId} {A : Nat → Prop} {b L i : Nat} {xs : Nat → Int32} (hB : Bd p s m #[Value.ref b] c code "JournalDeskLaw" 4 D cs) (hX : va_X b L xs s s.heap) (hbl : b < s.heap.size) (hbA : ¬ A b) (hL : L ≤ 2048) (hi : 4 * i + 3 < L) (hn : LAt p l e s m below meth c D cs A b 305 (4 * i) (i + 1)) : LAt p l e s m below meth c D cs A b 80 (4 * i) i := by
  intro ad bd sz cu pw ol nx en rq B Rt Tp eA eS eN of T Rc Sz Nm By hI H locs hP hD hS ls hl
  have hx := hB.1
  have hb := hB.2.1
  have hown := hB.2.2.2.1
  have hts := hB.2.2.2.2.1
  have hK := hB.2.2.2.2.2.1
  have hdI := hI.1
  have hrl := hI.2.1
  have hsz := hI.2.2.1
  have hnx := hI.2.2.2.2.2.2
  have hpo := lI_po hI
  have hon := hdI.1.1
  have hrq := hdI.1.2.2.1
  have hen := hdI.1.2.1
  have hsS := hdI.1.2.2.2.1
  have haA := hdI.1.2.2.2.2
  have hkp := rl_kp hdI
  have hz := rl_hz hdI hrl
  have hsM : ∀ k, (fun k => eS (ol + k)) k ≤ 100 := fun k => hsS (ol + k)
  by_cases hg : ∃ j, 1 ≤ j ∧ j ≤ 8 ∧ sz + j ≤ 100 ∧ xs (4 * i + 3) = nI j
  · skip
    obtain ⟨j, hj1, hj8, hj100, hxj⟩ := hg
    refine lv_aload_n hx hb d_law_80 rfl (lv_at hl 1 rfl) ?_
    refine lv_aload_n hx hb d_law_81 rfl (lv_at hl 0 rfl) ?_
    refine lv_iload_n hx hb d_law_82 rfl (lv_at hl 3 rfl) ?_
    refine lv_iconst (v := nI 1) hx hb d_law_83 (by decide) ?_
    refine n_add hx hb d_law_84 ?_
    refine n_sld hx hb hX hbl hbA hS (by omega) (by omega) d_law_85 ?_
    refine lv_i2l (v := (xs ((4 * i) + 1)).toInt64) hx hb d_law_86 rfl ?_
    refine lv_bipush (v := nI 32) hx hb d_law_87 (by decide) ?_
    refine lv_lshl (v := ((xs ((4 * i) + 1)).toInt64) <<< ((nI 32).toInt64 &&& 63)) hx hb d_law_89 rfl ?_
    refine lv_aload_n hx hb d_law_90 rfl (lv_at hl 0 rfl) ?_
    refine lv_iload_n hx hb d_law_91 rfl (lv_at hl 3 rfl) ?_
    refine lv_iconst (v := nI 2) hx hb d_law_92 (by decide) ?_
    refine n_add hx hb d_law_93 ?_
    refine n_sld hx hb hX hbl hbA hS (by omega) (by omega) d_law_94 ?_
    refine lv_i2l (v := (xs ((4 * i) + 2)).toInt64) hx hb d_law_95 rfl ?_
    refine lv_ldc2 (v := 4294967295) hx hb hown (hts _ cl_L_13) d_law_96 ?_
    refine lv_land hx hb d_law_99 ?_
    refine lv_lor hx hb d_law_100 ?_
    refine lv_aload_n hx hb d_law_101 rfl (lv_at hl 0 rfl) ?_
    refine lv_iload_n hx hb d_law_102 rfl (lv_at hl 3 rfl) ?_
    refine lv_iconst (v := nI 3) hx hb d_law_103 (by decide) ?_
    refine n_add hx hb d_law_104 ?_
    refine n_sld hx hb hX hbl hbA hS (by omega) (by omega) d_law_105 ?_
    refine tp_i (y := nI j) hxj ?_
    refine x_cQi (As := [.long ((((xs ((4 * i) + 1)).toInt64) <<< ((nI 32).toInt64 &&& 63)) ||| (((xs ((4 * i) + 2)).toInt64) &&& 4294967295)), .int (nI j)]) (rest := []) (n := 2) hB (c_D_put l (j := j) hj1 hj8 hj100) gi_L_15 (by decide +kernel) rfl rfl ⟨Nat.le_of_ble_eq_true rfl, Nat.le_of_ble_eq_true rfl⟩ hP hD hS 0 rfl rfl hl.1 rfl (Nat.le_of_ble_eq_true rfl) d_law_106 ⟨Nat.le_of_ble_eq_true rfl, Nat.le_of_ble_eq_true rfl⟩ (fun r w H locs hw hP hD hS => ?_)
    obtain ⟨rfl, T1, rfl, a1, a2⟩ := hw
    refine lv_aload_n hx hb d_law_109 rfl (lv_at hl 2 rfl) ?_
    refine lv_aload_n hx hb d_law_110 rfl (lv_at hl 0 rfl) ?_
    refine lv_iload_n hx hb d_law_111 rfl (lv_at hl 3 rfl) ?_
    refine lv_iconst (v := nI 1) hx hb d_law_112 (by decide) ?_
    refine n_add hx hb d_law_113 ?_
    refine n_sld hx hb hX hbl hbA hS (by omega) (by omega) d_law_114 ?_
    refine lv_i2l (v := (xs ((4 * i) + 1)).toInt64) hx hb d_law_115 rfl ?_
    refine lv_bipush (v := nI 32) hx hb d_law_116 (by decide) ?_
    refine lv_lshl (v := ((xs ((4 * i) + 1)).toInt64) <<< ((nI 32).toInt64 &&& 63)) hx hb d_law_118 rfl ?_
    refine lv_aload_n hx hb d_law_119 rfl (lv_at hl 0 rfl) ?_
    refine lv_iload_n hx hb d_law_120 rfl (lv_at hl 3 rfl) ?_
    refine lv_iconst (v := nI 2) hx hb d_law_121 (by decide) ?_
    refine n_add hx hb d_law_122 ?_
    refine n_sld hx hb hX hbl hbA hS (by omega) (by omega) d_law_123 ?_
    refine lv_i2l (v := (xs ((4 * i) + 2)).toInt64) hx hb d_law_124 rfl ?_
    refine lv_ldc2 (v := 4294967295) hx hb hown (hts _ cl_L_13) d_law_125 ?_
    refine lv_land hx hb d_law_128 ?_
    refine lv_lor hx hb d_law_129 ?_
    refine lv_aload_n hx hb d_law_130 rfl (lv_at hl 0 rfl) ?_
    refine lv_iload_n hx hb d_law_131 rfl (lv_at hl 3 rfl) ?_
    refine lv_iconst (v := nI 3) hx hb d_law_132 (by decide) ?_
    refine n_add hx hb d_law_133 ?_
    refine n_sld hx hb hX hbl hbA hS (by omega) (by omega) d_law_134 ?_
    refine tp_i (y := nI j) hxj ?_
    have hP := pm_P dm_pm hP
    have hD := pm_D dm_pm hD
    have hP : va_P D classes (mW cs bd sz (nx - ol) (nI rq) (nI nx) of cu T Rc Sz Nm By (dW cs ad (sz + j) cu pw ol nx en (nI rq) B Rt T1 eA eS eN ([]))) H := hP
    have hD : va_D A (mW cs bd sz (nx - ol) (nI rq) (nI nx) of cu T Rc Sz Nm By (dW cs ad (sz + j) cu pw ol nx en (nI rq) B Rt T1 eA eS eN ([]))) := hD
    refine x_cQi (As := [.long ((((xs ((4 * i) + 1)).toInt64) <<< ((nI 32).toInt64 &&& 63)) ||| (((xs ((4 * i) + 2)).toInt64) &&& 4294967295)), .int (nI j)]) (rest := [.int 1]) (n := 2) hB (c_M_put l (j := j) hj1 hj8 hj100) gi_L_19 (by decide +kernel) rfl rfl ⟨Nat.le_of_ble_eq_true rfl, Nat.le_of_ble_eq_true rfl⟩ hP hD hS 0 rfl rfl hl.1 rfl (Nat.le_of_ble_eq_true rfl) d_law_135 ⟨Nat.le_of_ble_eq_true rfl, Nat.le_of_ble_eq_true rfl⟩ (fun r w H locs hw hP hD hS => ?_)
    obtain ⟨rfl, T2, rfl, b1, b2⟩ := hw
    have hP : va_P D classes (mW cs bd (sz + j) (nx - ol) (nI rq) (nI nx) of cu T2 Rc Sz Nm By (dW cs ad (sz + j) cu pw ol nx en (nI rq) B Rt T1 eA eS eN ([]))) H := hP
    have hD : va_D A (mW cs bd (sz + j) (nx - ol) (nI rq) (nI nx) of cu T2 Rc Sz Nm By (dW cs ad (sz + j) cu pw ol nx en (nI rq) B Rt T1 eA eS eN ([]))) := hD
    have hP := pm_P dm_pm.symm hP
    have hD := pm_D dm_pm.symm hD
    have hP : va_P D classes (dW cs ad (sz + j) cu pw ol nx en (nI rq) B Rt T1 eA eS eN (mW cs bd (sz + j) (nx - ol) (nI rq) (nI nx) of cu T2 Rc Sz Nm By ([]))) H := hP
    have hD : va_D A (dW cs ad (sz + j) cu pw ol nx en (nI rq) B Rt T1 eA eS eN (mW cs bd (sz + j) (nx - ol) (nI rq) (nI nx) of cu T2 Rc Sz Nm By ([]))) := hD
    refine lv_icmp_eq (tgt := 305) hx hb d_law_138 (by decide) (fun hc138 => ?_) (fun hc138 => (absurd rfl hc138))
    exact hn ad bd (sz + j) cu pw ol nx en rq B Rt T1 eA eS eN of T2 Rc Sz Nm By (lI_put hI hj100 a1 a2 b1 b2) _ _ hP hD hS ls (lv_sub hl [0, 1, 2, 3] rfl)
  · skip
    refine lv_aload_n hx hb d_law_80 rfl (lv_at hl 1 rfl) ?_
    refine lv_aload_n hx hb d_law_81 rfl (lv_at hl 0 rfl) ?_
    refine lv_iload_n hx hb d_law_82 rfl (lv_at hl 3 rfl) ?_
    refine lv_iconst (v := nI 1) hx hb d_law_83 (by decide) ?_
    refine n_add hx hb d_law_84 ?_
    refine n_sld hx hb hX hbl hbA hS (by omega) (by omega) d_law_85 ?_
    refine lv_i2l (v := (xs ((4 * i) + 1)).toInt64) hx hb d_law_86 rfl ?_
    refine lv_bipush (v := nI 32) hx hb d_law_87 (by decide) ?_
    refine lv_lshl (v := ((xs ((4 * i) + 1)).toInt64) <<< ((nI 32).toInt64 &&& 63)) hx hb d_law_89 rfl ?_
    refine lv_aload_n hx hb d_law_90 rfl (lv_at hl 0 rfl) ?_
    refine lv_iload_n hx hb d_law_91 rfl (lv_at hl 3 rfl) ?_
    refine lv_iconst (v := nI 2) hx hb d_law_92 (by decide) ?_
    refine n_add hx hb d_law_93 ?_
    refine n_sld hx hb hX hbl hbA hS (by omega) (by omega) d_law_94 ?_
    refine lv_i2l (v := (xs ((4 * i) + 2)).toInt64) hx hb d_law_95 rfl ?_
    refine lv_ldc2 (v := 4294967295) hx hb hown (hts _ cl_L_13) d_law_96 ?_
    refine lv_land hx hb d_law_99 ?_
    refine lv_lor hx hb d_law_100 ?_
    refine lv_aload_n hx hb d_law_101 rfl (lv_at hl 0 rfl) ?_
    refine lv_iload_n hx hb d_law_102 rfl (lv_at hl 3 rfl) ?_
    refine lv_iconst (v := nI 3) hx hb d_law_103 (by decide) ?_
    refine n_add hx hb d_law_104 ?_
    refine n_sld hx hb hX hbl hbA hS (by omega) (by omega) d_law_105 ?_
    refine x_cQi (As := [.long ((((xs ((4 * i) + 1)).toInt64) <<< ((nI 32).toInt64 &&& 63)) ||| (((xs ((4 * i) + 2)).toInt64) &&& 4294967295)), .int (xs ((4 * i) + 3))]) (rest := []) (n := 2) hB (c_D_putN l hsz (fun j h1 h2 h3 h4 => hg ⟨j, h1, h2, h3, h4⟩)) gi_L_15 (by decide +kernel) rfl rfl ⟨Nat.le_of_ble_eq_true rfl, Nat.le_of_ble_eq_true rfl⟩ hP hD hS 0 rfl rfl hl.1 rfl (Nat.le_of_ble_eq_true rfl) d_law_106 ⟨Nat.le_of_ble_eq_true rfl, Nat.le_of_ble_eq_true rfl⟩ (fun r w H locs hw hP hD hS => ?_)
    obtain ⟨rfl, rfl⟩ := hw
    refine lv_aload_n hx hb d_law_109 rfl (lv_at hl 2 rfl) ?_
    refine lv_aload_n hx hb d_law_110 rfl (lv_at hl 0 rfl) ?_
    refine lv_iload_n hx hb d_law_111 rfl (lv_at hl 3 rfl) ?_
    refine lv_iconst (v := nI 1) hx hb d_law_112 (by decide) ?_
    refine n_add hx hb d_law_113 ?_
    refine n_sld hx hb hX hbl hbA hS (by omega) (by omega) d_law_114 ?_
    refine lv_i2l (v := (xs ((4 * i) + 1)).toInt64) hx hb d_law_115 rfl ?_
    refine lv_bipush (v := nI 32) hx hb d_law_116 (by decide) ?_
    refine lv_lshl (v := ((xs ((4 * i) + 1)).toInt64) <<< ((nI 32).toInt64 &&& 63)) hx hb d_law_118 rfl ?_
    refine lv_aload_n hx hb d_law_119 rfl (lv_at hl 0 rfl) ?_
    refine lv_iload_n hx hb d_law_120 rfl (lv_at hl 3 rfl) ?_
    refine lv_iconst (v := nI 2) hx hb d_law_121 (by decide) ?_
    refine n_add hx hb d_law_122 ?_
    refine n_sld hx hb hX hbl hbA hS (by omega) (by omega) d_law_123 ?_
    refine lv_i2l (v := (xs ((4 * i) + 2)).toInt64) hx hb d_law_124 rfl ?_
    refine lv_ldc2 (v := 4294967295) hx hb hown (hts _ cl_L_13) d_law_125 ?_
    refine lv_land hx hb d_law_128 ?_
    refine lv_lor hx hb d_law_129 ?_
    refine lv_aload_n hx hb d_law_130 rfl (lv_at hl 0 rfl) ?_
    refine lv_iload_n hx hb d_law_131 rfl (lv_at hl 3 rfl) ?_
    refine lv_iconst (v := nI 3) hx hb d_law_132 (by decide) ?_
    refine n_add hx hb d_law_133 ?_
    refine n_sld hx hb hX hbl hbA hS (by omega) (by omega) d_law_134 ?_
    have hP := pm_P dm_pm hP
    have hD := pm_D dm_pm hD
    have hP : va_P D classes (mW cs bd sz (nx - ol) (nI rq) (nI nx) of cu T Rc Sz Nm By (dW cs ad sz cu pw ol nx en (nI rq) B Rt Tp eA eS eN ([]))) H := hP
    have hD : va_D A (mW cs bd sz (nx - ol) (nI rq) (nI nx) of cu T Rc Sz Nm By (dW cs ad sz cu pw ol nx en (nI rq) B Rt Tp eA eS eN ([]))) := hD
    refine x_cQi (As := [.long ((((xs ((4 * i) + 1)).toInt64) <<< ((nI 32).toInt64 &&& 63)) ||| (((xs ((4 * i) + 2)).toInt64) &&& 4294967295)), .int (xs ((4 * i) + 3))]) (rest := [.int 0]) (n := 2) hB (c_M_putN l hsz (fun j h1 h2 h3 h4 => hg ⟨j, h1, h2, h3, h4⟩)) gi_L_19 (by decide +kernel) rfl rfl ⟨Nat.le_of_ble_eq_true rfl, Nat.le_of_ble_eq_true rfl⟩ hP hD hS 0 rfl rfl hl.1 rfl (Nat.le_of_ble_eq_true rfl) d_law_135 ⟨Nat.le_of_ble_eq_true rfl, Nat.le_of_ble_eq_true rfl⟩ (fun r w H locs hw hP hD hS => ?_)
    obtain ⟨rfl, rfl⟩ := hw
    have hP : va_P D classes (mW cs bd sz (nx - ol) (nI rq) (nI nx) of cu T Rc Sz Nm By (dW cs ad sz cu pw ol nx en (nI rq) B Rt Tp eA eS eN ([]))) H := hP
    have hD : va_D A (mW cs bd sz (nx - ol) (nI rq) (nI nx) of cu T Rc Sz Nm By (dW cs ad sz cu pw ol nx en (nI rq) B Rt Tp eA eS eN ([]))) := hD
    have hP := pm_P dm_pm.symm hP
    have hD := pm_D dm_pm.symm hD
    have hP : va_P D classes (dW cs ad sz cu pw ol nx en (nI rq) B Rt Tp eA eS eN (mW cs bd sz (nx - ol) (nI rq) (nI nx) of cu T Rc Sz Nm By ([]))) H := hP
    have hD : va_D A (dW cs ad sz cu pw ol nx en (nI rq) B Rt Tp eA eS eN (mW cs bd sz (nx - ol) (nI rq) (nI nx) of cu T Rc Sz Nm By ([]))) := hD
    refine lv_icmp_eq (tgt := 305) hx hb d_law_138 (by decide) (fun hc138 => ?_) (fun hc138 => (absurd rfl hc138))
    exact hn ad bd sz cu pw ol nx en rq B Rt Tp eA eS eN of T Rc Sz Nm By (lI_mono hI) _ _ hP hD hS ls (lv_sub hl [0, 1, 2, 3] rfl)
set_option maxHeartbeats 4000000 in
set_option maxRecDepth 100000 in
/-- drop -/
theorem op_drop {p : Program} {l : Launch} {e : Env} {s : State} {m : MethodId} {below : List Frame} {meth : Method} {c : Code} {D : va_G} {cs : Nat → ClassId} {A : Nat → Prop} {b L i : Nat} {xs : Nat → Int32} (hB : Bd p s m #[Value.ref b] c code "JournalDeskLaw" 4 D cs) (hX : va_X b L xs s s.heap) (hbl : b < s.heap.size) (hbA : ¬ A b) (hL : L ≤ 2048) (hi : 4 * i + 3 < L) (hn : LAt p l e s m below meth c D cs A b 305 (4 * i) (i + 1)) : LAt p l e s m below meth c D cs A b 156 (4 * i) i := by
  intro ad bd sz cu pw ol nx en rq B Rt Tp eA eS eN of T Rc Sz Nm By hI H locs hP hD hS ls hl
  have hx := hB.1
  have hb := hB.2.1
  have hown := hB.2.2.2.1
  have hts := hB.2.2.2.2.1
  have hK := hB.2.2.2.2.2.1
  have hdI := hI.1
  have hrl := hI.2.1
  have hsz := hI.2.2.1
  have hnx := hI.2.2.2.2.2.2
  have hpo := lI_po hI
  have hon := hdI.1.1
  have hrq := hdI.1.2.2.1
  have hen := hdI.1.2.1
  have hsS := hdI.1.2.2.2.1
  have haA := hdI.1.2.2.2.2
  have hkp := rl_kp hdI
  have hz := rl_hz hdI hrl
  have hsM : ∀ k, (fun k => eS (ol + k)) k ≤ 100 := fun k => hsS (ol + k)
  by_cases hg : (¬ pw = 0 ∧ us eS ol (nx - ol) + 1 ≤ 40) ∧ ∃ j, j ≤ mn eN ol (nx - ol) ∧ xs (4 * i + 1) = nI j
  · obtain ⟨hroom, j, hj, hxj⟩ := hg
    have hroomM : of = 0 ∧ us (fun k => eS (ol + k)) 0 (nx - ol) + 1 ≤ 40 := ⟨lI_of hI hroom.1, by rw [rl_us]; exact hroom.2⟩
    have hjM : j ≤ mn (qR Rc) 0 (nx - ol) := by rw [rl_mn hrl (by omega)]; exact hj
    rcases hI.2.2.2.2.1 with rfl | ⟨q, hq, rfl⟩
    · skip
      refine lv_aload_n hx hb d_law_156 rfl (lv_at hl 1 rfl) ?_
      refine lv_aload_n hx hb d_law_157 rfl (lv_at hl 0 rfl) ?_
      refine lv_iload_n hx hb d_law_158 rfl (lv_at hl 3 rfl) ?_
      refine lv_iconst (v := nI 1) hx hb d_law_159 (by decide) ?_
      refine n_add hx hb d_law_160 ?_
      refine n_sld hx hb hX hbl hbA hS (by omega) (by omega) d_law_161 ?_
      refine tp_i (y := nI j) hxj ?_
      refine x_cQi (As := [.int (nI j)]) (rest := []) (n := 1) hB (c_D_drop l (cu := 0) (q := 0) (rq := rq) hon (by omega) hsS hen (by omega) rfl hj hroom) gi_L_25 (by decide +kernel) rfl rfl ⟨Nat.le_of_ble_eq_true rfl, Nat.le_of_ble_eq_true rfl⟩ hP hD hS 0 rfl rfl hl.1 rfl (Nat.le_of_ble_eq_true rfl) d_law_162 ⟨Nat.le_of_ble_eq_true rfl, Nat.le_of_ble_eq_true rfl⟩ (fun r w H locs hw hP hD hS => ?_)
      obtain ⟨d, B1, R1, rfl, hkp2, rfl, hwr⟩ := hw
      refine lv_aload_n hx hb d_law_165 rfl (lv_at hl 2 rfl) ?_
      refine lv_aload_n hx hb d_law_166 rfl (lv_at hl 0 rfl) ?_
      refine lv_iload_n hx hb d_law_167 rfl (lv_at hl 3 rfl) ?_
      refine lv_iconst (v := nI 1) hx hb d_law_168 (by decide) ?_
      refine n_add hx hb d_law_169 ?_
      refine n_sld hx hb hX hbl hbA hS (by omega) (by omega) d_law_170 ?_
      refine tp_i (y := nI j) hxj ?_
      have hP := pm_P dm_pm hP
      have hD := pm_D dm_pm hD
      have hP : va_P D classes (mW cs bd sz (nx - ol) (nI rq) (nI nx) of (-1) T Rc Sz Nm By (dW cs ad sz (-1) pw (ol + d) (nx + 1) ((en + nd 0) % 40) (nI rq) B1 R1 Tp (va_up eA nx en) (va_up eS nx 0) (va_up eN nx (-1)) ([]))) H := hP
      have hD : va_D A (mW cs bd sz (nx - ol) (nI rq) (nI nx) of (-1) T Rc Sz Nm By (dW cs ad sz (-1) pw (ol + d) (nx + 1) ((en + nd 0) % 40) (nI rq) B1 R1 Tp (va_up eA nx en) (va_up eS nx 0) (va_up eN nx (-1)) ([]))) := hD
      refine x_cQi (As := [.int (nI j)]) (rest := [.int (nI (mn (va_up eN nx (-1)) (ol + d) (nx + 1 - (ol + d))))]) (n := 1) hB (c_M_drop l (cu := 0) (q := 0) (sN := fun k => eS (ol + k)) hkp hsM hz hjM hroomM (fun k hk => (hrl k (by omega)).2.1) rfl rfl) gi_L_29 (by decide +kernel) rfl rfl ⟨Nat.le_of_ble_eq_true rfl, Nat.le_of_ble_eq_true rfl⟩ hP hD hS 0 rfl rfl hl.1 rfl (Nat.le_of_ble_eq_true rfl) d_law_171 ⟨Nat.le_of_ble_eq_true rfl, Nat.le_of_ble_eq_true rfl⟩ (fun r w H locs hw hP hD hS => ?_)
      obtain ⟨f, Rc2, Sz2, Nm2, By2, rfl, hf0, hf1, hf2, rfl, hmv⟩ := hw
      have hP : va_P D classes (mW cs bd sz (nx - ol + 1 - f) (nI rq) (nI nx + 1) of (-1) T Rc2 Sz2 Nm2 By2 (dW cs ad sz (-1) pw (ol + d) (nx + 1) ((en + nd 0) % 40) (nI rq) B1 R1 Tp (va_up eA nx en) (va_up eS nx 0) (va_up eN nx (-1)) ([]))) H := hP
      have hD : va_D A (mW cs bd sz (nx - ol + 1 - f) (nI rq) (nI nx + 1) of (-1) T Rc2 Sz2 Nm2 By2 (dW cs ad sz (-1) pw (ol + d) (nx + 1) ((en + nd 0) % 40) (nI rq) B1 R1 Tp (va_up eA nx en) (va_up eS nx 0) (va_up eN nx (-1)) ([]))) := hD
      have hP := pm_P dm_pm.symm hP
      have hD := pm_D dm_pm.symm hD
      have hP : va_P D classes (dW cs ad sz (-1) pw (ol + d) (nx + 1) ((en + nd 0) % 40) (nI rq) B1 R1 Tp (va_up eA nx en) (va_up eS nx 0) (va_up eN nx (-1)) (mW cs bd sz (nx - ol + 1 - f) (nI rq) (nI nx + 1) of (-1) T Rc2 Sz2 Nm2 By2 ([]))) H := hP
      have hD : va_D A (dW cs ad sz (-1) pw (ol + d) (nx + 1) ((en + nd 0) % 40) (nI rq) B1 R1 Tp (va_up eA nx en) (va_up eS nx 0) (va_up eN nx (-1)) (mW cs bd sz (nx - ol + 1 - f) (nI rq) (nI nx + 1) of (-1) T Rc2 Sz2 Nm2 By2 ([]))) := hD
      refine lv_icmp_eq (tgt := 305) hx hb d_law_174 (by decide) (fun hc174 => ?_) (fun hc174 => (absurd (by rw [drop_r hkp2, rl_mn hrl (by omega)]) hc174))
      have hfd := drop_f hrl hon rfl hkp2 hf0 hf1 hf2
      rw [hfd, nI_1, show nx - ol + 1 - d = nx + 1 - (ol + d) by omega] at hP hD
      exact hn ad bd sz (-1) pw (ol + d) (nx + 1) ((en + nd 0) % 40) rq B1 R1 Tp (va_up eA nx en) (va_up eS nx 0) (va_up eN nx (-1)) of T Rc2 Sz2 Nm2 By2 (lI_drop hI (by omega) hroom.2 hwr hkp2 rfl rfl hfd hmv) _ _ hP hD hS ls (lv_sub hl [0, 1, 2, 3] rfl)
    · skip
      refine lv_aload_n hx hb d_law_156 rfl (lv_at hl 1 rfl) ?_
      refine lv_aload_n hx hb d_law_157 rfl (lv_at hl 0 rfl) ?_
      refine lv_iload_n hx hb d_law_158 rfl (lv_at hl 3 rfl) ?_
      refine lv_iconst (v := nI 1) hx hb d_law_159 (by decide) ?_
      refine n_add hx hb d_law_160 ?_
      refine n_sld hx hb hX hbl hbA hS (by omega) (by omega) d_law_161 ?_
      refine tp_i (y := nI j) hxj ?_
      refine x_cQi (As := [.int (nI j)]) (rest := []) (n := 1) hB (c_D_dropC l (cu := 0) (q := q) (rq := rq) hon (by omega) hsS hen (by omega) rfl hj hroom hq) gi_L_25 (by decide +kernel) rfl rfl ⟨Nat.le_of_ble_eq_true rfl, Nat.le_of_ble_eq_true rfl⟩ hP hD hS 0 rfl rfl hl.1 rfl (Nat.le_of_ble_eq_true rfl) d_law_162 ⟨Nat.le_of_ble_eq_true rfl, Nat.le_of_ble_eq_true rfl⟩ (fun r w H locs hw hP hD hS => ?_)
      obtain ⟨rfl, d, B1, R1, hkp2, rfl, hwr⟩ := hw
      refine lv_aload_n hx hb d_law_165 rfl (lv_at hl 2 rfl) ?_
      refine lv_aload_n hx hb d_law_166 rfl (lv_at hl 0 rfl) ?_
      refine lv_iload_n hx hb d_law_167 rfl (lv_at hl 3 rfl) ?_
      refine lv_iconst (v := nI 1) hx hb d_law_168 (by decide) ?_
      refine n_add hx hb d_law_169 ?_
      refine n_sld hx hb hX hbl hbA hS (by omega) (by omega) d_law_170 ?_
      refine tp_i (y := nI j) hxj ?_
      have hP := pm_P dm_pm hP
      have hD := pm_D dm_pm hD
      have hP : va_P D classes (mW cs bd sz (nx - ol) (nI rq) (nI nx) of (nI q) T Rc Sz Nm By (dW cs ad sz (-1) (nI 0) ol nx en (nI rq) B1 (upd R1 ((en + (min q (nd 0 - 1))) % 40) (nI 0)) Tp (va_up eA nx en) (va_up eS nx 0) (va_up eN nx (-1)) ([]))) H := hP
      have hD : va_D A (mW cs bd sz (nx - ol) (nI rq) (nI nx) of (nI q) T Rc Sz Nm By (dW cs ad sz (-1) (nI 0) ol nx en (nI rq) B1 (upd R1 ((en + (min q (nd 0 - 1))) % 40) (nI 0)) Tp (va_up eA nx en) (va_up eS nx 0) (va_up eN nx (-1)) ([]))) := hD
      refine x_cQi (As := [.int (nI j)]) (rest := [.int (-2)]) (n := 1) hB (c_M_dropC l (cu := 0) (q := q) (sN := fun k => eS (ol + k)) hkp hsM hz hjM hroomM hq) gi_L_29 (by decide +kernel) rfl rfl ⟨Nat.le_of_ble_eq_true rfl, Nat.le_of_ble_eq_true rfl⟩ hP hD hS 0 rfl rfl hl.1 rfl (Nat.le_of_ble_eq_true rfl) d_law_171 ⟨Nat.le_of_ble_eq_true rfl, Nat.le_of_ble_eq_true rfl⟩ (fun r w H locs hw hP hD hS => ?_)
      obtain ⟨rfl, rfl⟩ := hw
      have hP : va_P D classes (mW cs bd sz (nx - ol) (nI rq) (nI nx) (nI 1) (-1) T Rc Sz Nm By (dW cs ad sz (-1) (nI 0) ol nx en (nI rq) B1 (upd R1 ((en + (min q (nd 0 - 1))) % 40) (nI 0)) Tp (va_up eA nx en) (va_up eS nx 0) (va_up eN nx (-1)) ([]))) H := hP
      have hD : va_D A (mW cs bd sz (nx - ol) (nI rq) (nI nx) (nI 1) (-1) T Rc Sz Nm By (dW cs ad sz (-1) (nI 0) ol nx en (nI rq) B1 (upd R1 ((en + (min q (nd 0 - 1))) % 40) (nI 0)) Tp (va_up eA nx en) (va_up eS nx 0) (va_up eN nx (-1)) ([]))) := hD
      have hP := pm_P dm_pm.symm hP
      have hD := pm_D dm_pm.symm hD
      have hP : va_P D classes (dW cs ad sz (-1) (nI 0) ol nx en (nI rq) B1 (upd R1 ((en + (min q (nd 0 - 1))) % 40) (nI 0)) Tp (va_up eA nx en) (va_up eS nx 0) (va_up eN nx (-1)) (mW cs bd sz (nx - ol) (nI rq) (nI nx) (nI 1) (-1) T Rc Sz Nm By ([]))) H := hP
      have hD : va_D A (dW cs ad sz (-1) (nI 0) ol nx en (nI rq) B1 (upd R1 ((en + (min q (nd 0 - 1))) % 40) (nI 0)) Tp (va_up eA nx en) (va_up eS nx 0) (va_up eN nx (-1)) (mW cs bd sz (nx - ol) (nI rq) (nI nx) (nI 1) (-1) T Rc Sz Nm By ([]))) := hD
      refine lv_icmp_eq (tgt := 305) hx hb d_law_174 (by decide) (fun hc174 => ?_) (fun hc174 => (absurd rfl hc174))
      exact hn ad bd sz (-1) (nI 0) ol nx en rq B1 (upd R1 ((en + (min q (nd 0 - 1))) % 40) (nI 0)) Tp (va_up eA nx en) (va_up eS nx 0) (va_up eN nx (-1)) (nI 1) T Rc Sz Nm By (lI_fail (bs := 0) hI (by omega) hroom.2 (Nat.zero_le _) (fun _ => rfl) (by have := nd_pos 0; omega) hwr sz (Nat.le_refl _)) _ _ hP hD hS ls (lv_sub hl [0, 1, 2, 3] rfl)
  · skip
    refine lv_aload_n hx hb d_law_156 rfl (lv_at hl 1 rfl) ?_
    refine lv_aload_n hx hb d_law_157 rfl (lv_at hl 0 rfl) ?_
    refine lv_iload_n hx hb d_law_158 rfl (lv_at hl 3 rfl) ?_
    refine lv_iconst (v := nI 1) hx hb d_law_159 (by decide) ?_
    refine n_add hx hb d_law_160 ?_
    refine n_sld hx hb hX hbl hbA hS (by omega) (by omega) d_law_161 ?_
    refine x_cQi (As := [.int (xs ((4 * i) + 1))]) (rest := []) (n := 1) hB (c_D_dropN l (q := 0) (rq := rq) hon (by omega) hsS hen (by omega) rfl hg) gi_L_25 (by decide +kernel) rfl rfl ⟨Nat.le_of_ble_eq_true rfl, Nat.le_of_ble_eq_true rfl⟩ hP hD hS 0 rfl rfl hl.1 rfl (Nat.le_of_ble_eq_true rfl) d_law_162 ⟨Nat.le_of_ble_eq_true rfl, Nat.le_of_ble_eq_true rfl⟩ (fun r w H locs hw hP hD hS => ?_)
    obtain ⟨rfl, rfl⟩ := hw
    refine lv_aload_n hx hb d_law_165 rfl (lv_at hl 2 rfl) ?_
    refine lv_aload_n hx hb d_law_166 rfl (lv_at hl 0 rfl) ?_
    refine lv_iload_n hx hb d_law_167 rfl (lv_at hl 3 rfl) ?_
    refine lv_iconst (v := nI 1) hx hb d_law_168 (by decide) ?_
    refine n_add hx hb d_law_169 ?_
    refine n_sld hx hb hX hbl hbA hS (by omega) (by omega) d_law_170 ?_
    have hP := pm_P dm_pm hP
    have hD := pm_D dm_pm hD
    have hP : va_P D classes (mW cs bd sz (nx - ol) (nI rq) (nI nx) of cu T Rc Sz Nm By (dW cs ad sz cu pw ol nx en (nI rq) B Rt Tp eA eS eN ([]))) H := hP
    have hD : va_D A (mW cs bd sz (nx - ol) (nI rq) (nI nx) of cu T Rc Sz Nm By (dW cs ad sz cu pw ol nx en (nI rq) B Rt Tp eA eS eN ([]))) := hD
    refine x_cQi (As := [.int (xs ((4 * i) + 1))]) (rest := [.int (-1)]) (n := 1) hB (c_M_dropN l (q := 0) (sN := fun k => eS (ol + k)) hkp hsM hz (fun z => hg ⟨⟨fun y => hpo.mpr y z.1.1, by have := z.1.2; rw [rl_us] at this; exact this⟩, by have := z.2; rw [rl_mn hrl (by omega)] at this; exact this⟩)) gi_L_29 (by decide +kernel) rfl rfl ⟨Nat.le_of_ble_eq_true rfl, Nat.le_of_ble_eq_true rfl⟩ hP hD hS 0 rfl rfl hl.1 rfl (Nat.le_of_ble_eq_true rfl) d_law_171 ⟨Nat.le_of_ble_eq_true rfl, Nat.le_of_ble_eq_true rfl⟩ (fun r w H locs hw hP hD hS => ?_)
    obtain ⟨rfl, rfl⟩ := hw
    have hP : va_P D classes (mW cs bd sz (nx - ol) (nI rq) (nI nx) of cu T Rc Sz Nm By (dW cs ad sz cu pw ol nx en (nI rq) B Rt Tp eA eS eN ([]))) H := hP
    have hD : va_D A (mW cs bd sz (nx - ol) (nI rq) (nI nx) of cu T Rc Sz Nm By (dW cs ad sz cu pw ol nx en (nI rq) B Rt Tp eA eS eN ([]))) := hD
    have hP := pm_P dm_pm.symm hP
    have hD := pm_D dm_pm.symm hD
    have hP : va_P D classes (dW cs ad sz cu pw ol nx en (nI rq) B Rt Tp eA eS eN (mW cs bd sz (nx - ol) (nI rq) (nI nx) of cu T Rc Sz Nm By ([]))) H := hP
    have hD : va_D A (dW cs ad sz cu pw ol nx en (nI rq) B Rt Tp eA eS eN (mW cs bd sz (nx - ol) (nI rq) (nI nx) of cu T Rc Sz Nm By ([]))) := hD
    refine lv_icmp_eq (tgt := 305) hx hb d_law_174 (by decide) (fun hc174 => ?_) (fun hc174 => (absurd rfl hc174))
    exact hn ad bd sz cu pw ol nx en rq B Rt Tp eA eS eN of T Rc Sz Nm By (lI_mono hI) _ _ hP hD hS ls (lv_sub hl [0, 1, 2, 3] rfl)
set_option maxHeartbeats 4000000 in
set_option maxRecDepth 100000 in
/-- cut -/
theorem op_cut {p : Program} {l : Launch} {e : Env} {s : State} {m : MethodId} {below : List Frame} {meth : Method} {c : Code} {D : va_G} {cs : Nat → ClassId} {A : Nat → Prop} {b L i : Nat} {xs : Nat → Int32} (hB : Bd p s m #[Value.ref b] c code "JournalDeskLaw" 4 D cs) (hX : va_X b L xs s s.heap) (hbl : b < s.heap.size) (hbA : ¬ A b) (hL : L ≤ 2048) (hi : 4 * i + 3 < L) (hn : LAt p l e s m below meth c D cs A b 305 (4 * i) (i + 1)) : LAt p l e s m below meth c D cs A b 179 (4 * i) i := by
  intro ad bd sz cu pw ol nx en rq B Rt Tp eA eS eN of T Rc Sz Nm By hI H locs hP hD hS ls hl
  have hx := hB.1
  have hb := hB.2.1
  have hown := hB.2.2.2.1
  have hts := hB.2.2.2.2.1
  have hK := hB.2.2.2.2.2.1
  have hdI := hI.1
  have hrl := hI.2.1
  have hsz := hI.2.2.1
  have hnx := hI.2.2.2.2.2.2
  have hpo := lI_po hI
  have hon := hdI.1.1
  have hrq := hdI.1.2.2.1
  have hen := hdI.1.2.1
  have hsS := hdI.1.2.2.2.1
  have haA := hdI.1.2.2.2.2
  have hkp := rl_kp hdI
  have hz := rl_hz hdI hrl
  have hsM : ∀ k, (fun k => eS (ol + k)) k ≤ 100 := fun k => hsS (ol + k)
  refine lv_aload_n hx hb d_law_179 rfl (lv_at hl 1 rfl) ?_
  refine lv_aload_n hx hb d_law_180 rfl (lv_at hl 0 rfl) ?_
  refine lv_iload_n hx hb d_law_181 rfl (lv_at hl 3 rfl) ?_
  refine lv_iconst (v := nI 1) hx hb d_law_182 (by decide) ?_
  refine n_add hx hb d_law_183 ?_
  refine n_sld hx hb hX hbl hbA hS (by omega) (by omega) d_law_184 ?_
  refine x_cQi (As := [.int (xs ((4 * i) + 1))]) (rest := []) (n := 1) hB (c_D_cut l) gi_L_30 (by decide +kernel) rfl rfl ⟨Nat.le_of_ble_eq_true rfl, Nat.le_of_ble_eq_true rfl⟩ hP hD hS 0 rfl rfl hl.1 rfl (Nat.le_of_ble_eq_true rfl) d_law_185 ⟨Nat.le_of_ble_eq_true rfl, Nat.le_of_ble_eq_true rfl⟩ (fun r w H locs hw hP hD hS => ?_)
  obtain ⟨rfl, rfl⟩ := hw
  refine lv_aload_n hx hb d_law_188 rfl (lv_at hl 2 rfl) ?_
  refine lv_aload_n hx hb d_law_189 rfl (lv_at hl 0 rfl) ?_
  refine lv_iload_n hx hb d_law_190 rfl (lv_at hl 3 rfl) ?_
  refine lv_iconst (v := nI 1) hx hb d_law_191 (by decide) ?_
  refine n_add hx hb d_law_192 ?_
  refine n_sld hx hb hX hbl hbA hS (by omega) (by omega) d_law_193 ?_
  have hP := pm_P dm_pm hP
  have hD := pm_D dm_pm hD
  have hP : va_P D classes (mW cs bd sz (nx - ol) (nI rq) (nI nx) of cu T Rc Sz Nm By (dW cs ad sz (if xs (4 * i + 1) < -1 ∨ 8 < xs (4 * i + 1) then cu else xs (4 * i + 1)) pw ol nx en (nI rq) B Rt Tp eA eS eN ([]))) H := hP
  have hD : va_D A (mW cs bd sz (nx - ol) (nI rq) (nI nx) of cu T Rc Sz Nm By (dW cs ad sz (if xs (4 * i + 1) < -1 ∨ 8 < xs (4 * i + 1) then cu else xs (4 * i + 1)) pw ol nx en (nI rq) B Rt Tp eA eS eN ([]))) := hD
  refine x_cQi (As := [.int (xs ((4 * i) + 1))]) (rest := [.int (if xs (4 * i + 1) < -1 ∨ 8 < xs (4 * i + 1) then 0 else 1)]) (n := 1) hB (c_M_cut l) gi_L_34 (by decide +kernel) rfl rfl ⟨Nat.le_of_ble_eq_true rfl, Nat.le_of_ble_eq_true rfl⟩ hP hD hS 0 rfl rfl hl.1 rfl (Nat.le_of_ble_eq_true rfl) d_law_194 ⟨Nat.le_of_ble_eq_true rfl, Nat.le_of_ble_eq_true rfl⟩ (fun r w H locs hw hP hD hS => ?_)
  obtain ⟨rfl, rfl⟩ := hw
  have hP : va_P D classes (mW cs bd sz (nx - ol) (nI rq) (nI nx) of (if xs (4 * i + 1) < -1 ∨ 8 < xs (4 * i + 1) then cu else xs (4 * i + 1)) T Rc Sz Nm By (dW cs ad sz (if xs (4 * i + 1) < -1 ∨ 8 < xs (4 * i + 1) then cu else xs (4 * i + 1)) pw ol nx en (nI rq) B Rt Tp eA eS eN ([]))) H := hP
  have hD : va_D A (mW cs bd sz (nx - ol) (nI rq) (nI nx) of (if xs (4 * i + 1) < -1 ∨ 8 < xs (4 * i + 1) then cu else xs (4 * i + 1)) T Rc Sz Nm By (dW cs ad sz (if xs (4 * i + 1) < -1 ∨ 8 < xs (4 * i + 1) then cu else xs (4 * i + 1)) pw ol nx en (nI rq) B Rt Tp eA eS eN ([]))) := hD
  have hP := pm_P dm_pm.symm hP
  have hD := pm_D dm_pm.symm hD
  have hP : va_P D classes (dW cs ad sz (if xs (4 * i + 1) < -1 ∨ 8 < xs (4 * i + 1) then cu else xs (4 * i + 1)) pw ol nx en (nI rq) B Rt Tp eA eS eN (mW cs bd sz (nx - ol) (nI rq) (nI nx) of (if xs (4 * i + 1) < -1 ∨ 8 < xs (4 * i + 1) then cu else xs (4 * i + 1)) T Rc Sz Nm By ([]))) H := hP
  have hD : va_D A (dW cs ad sz (if xs (4 * i + 1) < -1 ∨ 8 < xs (4 * i + 1) then cu else xs (4 * i + 1)) pw ol nx en (nI rq) B Rt Tp eA eS eN (mW cs bd sz (nx - ol) (nI rq) (nI nx) of (if xs (4 * i + 1) < -1 ∨ 8 < xs (4 * i + 1) then cu else xs (4 * i + 1)) T Rc Sz Nm By ([]))) := hD
  refine lv_icmp_eq (tgt := 305) hx hb d_law_197 (by decide) (fun hc197 => ?_) (fun hc197 => (absurd rfl hc197))
  exact hn ad bd sz (if xs (4 * i + 1) < -1 ∨ 8 < xs (4 * i + 1) then cu else xs (4 * i + 1)) pw ol nx en rq B Rt Tp eA eS eN of T Rc Sz Nm By (lI_cut hI) _ _ hP hD hS ls (lv_sub hl [0, 1, 2, 3] rfl)
set_option maxHeartbeats 4000000 in
set_option maxRecDepth 100000 in
/-- start -/
theorem op_start {p : Program} {l : Launch} {e : Env} {s : State} {m : MethodId} {below : List Frame} {meth : Method} {c : Code} {D : va_G} {cs : Nat → ClassId} {A : Nat → Prop} {b L i : Nat} {xs : Nat → Int32} (hB : Bd p s m #[Value.ref b] c code "JournalDeskLaw" 4 D cs) (hX : va_X b L xs s s.heap) (hbl : b < s.heap.size) (hbA : ¬ A b) (hL : L ≤ 2048) (hi : 4 * i + 3 < L) (hn : LAt p l e s m below meth c D cs A b 305 (4 * i) (i + 1)) : LAt p l e s m below meth c D cs A b 202 (4 * i) i := by
  intro ad bd sz cu pw ol nx en rq B Rt Tp eA eS eN of T Rc Sz Nm By hI H locs hP hD hS ls hl
  have hx := hB.1
  have hb := hB.2.1
  have hown := hB.2.2.2.1
  have hts := hB.2.2.2.2.1
  have hK := hB.2.2.2.2.2.1
  have hdI := hI.1
  have hrl := hI.2.1
  have hsz := hI.2.2.1
  have hnx := hI.2.2.2.2.2.2
  have hpo := lI_po hI
  have hon := hdI.1.1
  have hrq := hdI.1.2.2.1
  have hen := hdI.1.2.1
  have hsS := hdI.1.2.2.2.1
  have haA := hdI.1.2.2.2.2
  have hkp := rl_kp hdI
  have hz := rl_hz hdI hrl
  have hsM : ∀ k, (fun k => eS (ol + k)) k ≤ 100 := fun k => hsS (ol + k)
  rcases hI.2.2.2.2.2.1 with ⟨rfl, rfl⟩ | ⟨rfl, rfl⟩
  · skip
    refine lv_aload_n hx hb d_law_202 rfl (lv_at hl 1 rfl) ?_
    refine x_cQi (As := []) (rest := []) (n := 0) hB (c_D_startN l (by decide)) gi_L_35 (by decide +kernel) rfl rfl ⟨Nat.le_of_ble_eq_true rfl, Nat.le_of_ble_eq_true rfl⟩ hP hD hS 0 rfl rfl hl.1 rfl (Nat.le_of_ble_eq_true rfl) d_law_203 ⟨Nat.le_of_ble_eq_true rfl, Nat.le_of_ble_eq_true rfl⟩ (fun r w H locs hw hP hD hS => ?_)
    obtain ⟨rfl, rfl⟩ := hw
    refine lv_aload_n hx hb d_law_206 rfl (lv_at hl 2 rfl) ?_
    have hP := pm_P dm_pm hP
    have hD := pm_D dm_pm hD
    have hP : va_P D classes (mW cs bd sz (nx - ol) (nI rq) (nI nx) (nI 0) cu T Rc Sz Nm By (dW cs ad sz cu (nI 1) ol nx en (nI rq) B Rt Tp eA eS eN ([]))) H := hP
    have hD : va_D A (mW cs bd sz (nx - ol) (nI rq) (nI nx) (nI 0) cu T Rc Sz Nm By (dW cs ad sz cu (nI 1) ol nx en (nI rq) B Rt Tp eA eS eN ([]))) := hD
    refine x_cQi (As := []) (rest := [.int (-1)]) (n := 0) hB (c_M_startN l nI_0) gi_L_38 (by decide +kernel) rfl rfl ⟨Nat.le_of_ble_eq_true rfl, Nat.le_of_ble_eq_true rfl⟩ hP hD hS 0 rfl rfl hl.1 rfl (Nat.le_of_ble_eq_true rfl) d_law_207 ⟨Nat.le_of_ble_eq_true rfl, Nat.le_of_ble_eq_true rfl⟩ (fun r w H locs hw hP hD hS => ?_)
    obtain ⟨rfl, rfl⟩ := hw
    have hP : va_P D classes (mW cs bd sz (nx - ol) (nI rq) (nI nx) (nI 0) cu T Rc Sz Nm By (dW cs ad sz cu (nI 1) ol nx en (nI rq) B Rt Tp eA eS eN ([]))) H := hP
    have hD : va_D A (mW cs bd sz (nx - ol) (nI rq) (nI nx) (nI 0) cu T Rc Sz Nm By (dW cs ad sz cu (nI 1) ol nx en (nI rq) B Rt Tp eA eS eN ([]))) := hD
    have hP := pm_P dm_pm.symm hP
    have hD := pm_D dm_pm.symm hD
    have hP : va_P D classes (dW cs ad sz cu (nI 1) ol nx en (nI rq) B Rt Tp eA eS eN (mW cs bd sz (nx - ol) (nI rq) (nI nx) (nI 0) cu T Rc Sz Nm By ([]))) H := hP
    have hD : va_D A (dW cs ad sz cu (nI 1) ol nx en (nI rq) B Rt Tp eA eS eN (mW cs bd sz (nx - ol) (nI rq) (nI nx) (nI 0) cu T Rc Sz Nm By ([]))) := hD
    refine lv_icmp_eq (tgt := 305) hx hb d_law_210 (by decide) (fun hc210 => ?_) (fun hc210 => (absurd rfl hc210))
    exact hn ad bd sz cu (nI 1) ol nx en rq B Rt Tp eA eS eN (nI 0) T Rc Sz Nm By (lI_mono hI) _ _ hP hD hS ls (lv_sub hl [0, 1, 2, 3] rfl)
  · skip
    refine lv_aload_n hx hb d_law_202 rfl (lv_at hl 1 rfl) ?_
    refine x_cQi (As := []) (rest := []) (n := 0) hB (c_D_start l (pw := 0) hdI (by omega) rfl) gi_L_35 (by decide +kernel) rfl rfl ⟨Nat.le_of_ble_eq_true rfl, Nat.le_of_ble_eq_true rfl⟩ hP hD hS 0 rfl rfl hl.1 rfl (Nat.le_of_ble_eq_true rfl) d_law_203 ⟨Nat.le_of_ble_eq_true rfl, Nat.le_of_ble_eq_true rfl⟩ (fun r w H locs hw hP hD hS => ?_)
    obtain ⟨rfl, rfl⟩ := hw
    refine lv_aload_n hx hb d_law_206 rfl (lv_at hl 2 rfl) ?_
    have hP := pm_P dm_pm hP
    have hD := pm_D dm_pm hD
    have hP : va_P D classes (mW cs bd sz (nx - ol) (nI rq) (nI nx) (nI 1) cu T Rc Sz Nm By (dW cs ad sz cu (nI 1) ol nx en (nI rq) B Rt Tp eA eS eN ([]))) H := hP
    have hD : va_D A (mW cs bd sz (nx - ol) (nI rq) (nI nx) (nI 1) cu T Rc Sz Nm By (dW cs ad sz cu (nI 1) ol nx en (nI rq) B Rt Tp eA eS eN ([]))) := hD
    refine x_cQi (As := []) (rest := [.int (nI (mn eN ol (nx - ol)))]) (n := 0) hB (c_M_start l hkp (by decide)) gi_L_38 (by decide +kernel) rfl rfl ⟨Nat.le_of_ble_eq_true rfl, Nat.le_of_ble_eq_true rfl⟩ hP hD hS 0 rfl rfl hl.1 rfl (Nat.le_of_ble_eq_true rfl) d_law_207 ⟨Nat.le_of_ble_eq_true rfl, Nat.le_of_ble_eq_true rfl⟩ (fun r w H locs hw hP hD hS => ?_)
    obtain ⟨rfl, rfl⟩ := hw
    have hP : va_P D classes (mW cs bd sz (nx - ol) (nI rq) (nI nx) (nI 0) cu T Rc Sz Nm By (dW cs ad sz cu (nI 1) ol nx en (nI rq) B Rt Tp eA eS eN ([]))) H := hP
    have hD : va_D A (mW cs bd sz (nx - ol) (nI rq) (nI nx) (nI 0) cu T Rc Sz Nm By (dW cs ad sz cu (nI 1) ol nx en (nI rq) B Rt Tp eA eS eN ([]))) := hD
    have hP := pm_P dm_pm.symm hP
    have hD := pm_D dm_pm.symm hD
    have hP : va_P D classes (dW cs ad sz cu (nI 1) ol nx en (nI rq) B Rt Tp eA eS eN (mW cs bd sz (nx - ol) (nI rq) (nI nx) (nI 0) cu T Rc Sz Nm By ([]))) H := hP
    have hD : va_D A (dW cs ad sz cu (nI 1) ol nx en (nI rq) B Rt Tp eA eS eN (mW cs bd sz (nx - ol) (nI rq) (nI nx) (nI 0) cu T Rc Sz Nm By ([]))) := hD
    refine lv_icmp_eq (tgt := 305) hx hb d_law_210 (by decide) (fun hc210 => ?_) (fun hc210 => (absurd (by rw [rl_mn hrl (by omega)]) hc210))
    exact hn ad bd sz cu (nI 1) ol nx en rq B Rt Tp eA eS eN (nI 0) T Rc Sz Nm By (lI_start hI) _ _ hP hD hS ls (lv_sub hl [0, 1, 2, 3] rfl)
set_option maxHeartbeats 4000000 in
set_option maxRecDepth 100000 in
/-- record -/
theorem op_record {p : Program} {l : Launch} {e : Env} {s : State} {m : MethodId} {below : List Frame} {meth : Method} {c : Code} {D : va_G} {cs : Nat → ClassId} {A : Nat → Prop} {b L i : Nat} {xs : Nat → Int32} (hB : Bd p s m #[Value.ref b] c code "JournalDeskLaw" 4 D cs) (hX : va_X b L xs s s.heap) (hbl : b < s.heap.size) (hbA : ¬ A b) (hL : L ≤ 2048) (hi : 4 * i + 3 < L) (hn : LAt p l e s m below meth c D cs A b 305 (4 * i) (i + 1)) : LAt p l e s m below meth c D cs A b 215 (4 * i) i := by
  intro ad bd sz cu pw ol nx en rq B Rt Tp eA eS eN of T Rc Sz Nm By hI H locs hP hD hS ls hl
  have hx := hB.1
  have hb := hB.2.1
  have hown := hB.2.2.2.1
  have hts := hB.2.2.2.2.1
  have hK := hB.2.2.2.2.2.1
  have hdI := hI.1
  have hrl := hI.2.1
  have hsz := hI.2.2.1
  have hnx := hI.2.2.2.2.2.2
  have hpo := lI_po hI
  have hon := hdI.1.1
  have hrq := hdI.1.2.2.1
  have hen := hdI.1.2.1
  have hsS := hdI.1.2.2.2.1
  have haA := hdI.1.2.2.2.2
  have hkp := rl_kp hdI
  have hz := rl_hz hdI hrl
  have hsM : ∀ k, (fun k => eS (ol + k)) k ≤ 100 := fun k => hsS (ol + k)
  refine lv_aload_n hx hb d_law_215 rfl (lv_at hl 1 rfl) ?_
  refine lv_aload_n hx hb d_law_216 rfl (lv_at hl 0 rfl) ?_
  refine lv_iload_n hx hb d_law_217 rfl (lv_at hl 3 rfl) ?_
  refine lv_iconst (v := nI 1) hx hb d_law_218 (by decide) ?_
  refine n_add hx hb d_law_219 ?_
  refine n_sld hx hb hX hbl hbA hS (by omega) (by omega) d_law_220 ?_
  refine lv_aload_n hx hb d_law_221 rfl (lv_at hl 0 rfl) ?_
  refine lv_iload_n hx hb d_law_222 rfl (lv_at hl 3 rfl) ?_
  refine lv_iconst (v := nI 2) hx hb d_law_223 (by decide) ?_
  refine n_add hx hb d_law_224 ?_
  refine n_sld hx hb hX hbl hbA hS (by omega) (by omega) d_law_225 ?_
  refine x_cSi (As := [.int (xs ((4 * i) + 1)), .int (xs ((4 * i) + 2))]) (rest := []) (n := 2) hB (c_D_record l hon (by omega)) gi_L_39 (by decide +kernel) rfl rfl ⟨Nat.le_of_ble_eq_true rfl, Nat.le_of_ble_eq_true rfl⟩ hP hD 0 rfl rfl hl.1 rfl (Nat.le_of_ble_eq_true rfl) d_law_226 ⟨Nat.le_of_ble_eq_true rfl, Nat.le_of_ble_eq_true rfl⟩ (fun r hr => ?_)
  subst hr
  refine lv_aload_n hx hb d_law_229 rfl (lv_at hl 2 rfl) ?_
  refine lv_aload_n hx hb d_law_230 rfl (lv_at hl 0 rfl) ?_
  refine lv_iload_n hx hb d_law_231 rfl (lv_at hl 3 rfl) ?_
  refine lv_iconst (v := nI 1) hx hb d_law_232 (by decide) ?_
  refine n_add hx hb d_law_233 ?_
  refine n_sld hx hb hX hbl hbA hS (by omega) (by omega) d_law_234 ?_
  refine lv_aload_n hx hb d_law_235 rfl (lv_at hl 0 rfl) ?_
  refine lv_iload_n hx hb d_law_236 rfl (lv_at hl 3 rfl) ?_
  refine lv_iconst (v := nI 2) hx hb d_law_237 (by decide) ?_
  refine n_add hx hb d_law_238 ?_
  refine n_sld hx hb hX hbl hbA hS (by omega) (by omega) d_law_239 ?_
  have hP := pm_P dm_pm hP
  have hD := pm_D dm_pm hD
  have hP : va_P D classes (mW cs bd sz (nx - ol) (nI rq) (nI nx) of cu T Rc Sz Nm By (dW cs ad sz cu pw ol nx en (nI rq) B Rt Tp eA eS eN ([]))) H := hP
  have hD : va_D A (mW cs bd sz (nx - ol) (nI rq) (nI nx) of cu T Rc Sz Nm By (dW cs ad sz cu pw ol nx en (nI rq) B Rt Tp eA eS eN ([]))) := hD
  refine x_cSi (As := [.int (xs ((4 * i) + 1)), .int (xs ((4 * i) + 2))]) (rest := [.int (recA pw eS eN ol nx (xs (4 * i + 1)) (xs (4 * i + 2)))]) (n := 2) hB (c_M_record l hkp) gi_L_43 (by decide +kernel) rfl rfl ⟨Nat.le_of_ble_eq_true rfl, Nat.le_of_ble_eq_true rfl⟩ hP hD 0 rfl rfl hl.1 rfl (Nat.le_of_ble_eq_true rfl) d_law_240 ⟨Nat.le_of_ble_eq_true rfl, Nat.le_of_ble_eq_true rfl⟩ (fun r hr => ?_)
  subst hr
  have hP : va_P D classes (mW cs bd sz (nx - ol) (nI rq) (nI nx) of cu T Rc Sz Nm By (dW cs ad sz cu pw ol nx en (nI rq) B Rt Tp eA eS eN ([]))) H := hP
  have hD : va_D A (mW cs bd sz (nx - ol) (nI rq) (nI nx) of cu T Rc Sz Nm By (dW cs ad sz cu pw ol nx en (nI rq) B Rt Tp eA eS eN ([]))) := hD
  have hP := pm_P dm_pm.symm hP
  have hD := pm_D dm_pm.symm hD
  have hP : va_P D classes (dW cs ad sz cu pw ol nx en (nI rq) B Rt Tp eA eS eN (mW cs bd sz (nx - ol) (nI rq) (nI nx) of cu T Rc Sz Nm By ([]))) H := hP
  have hD : va_D A (dW cs ad sz cu pw ol nx en (nI rq) B Rt Tp eA eS eN (mW cs bd sz (nx - ol) (nI rq) (nI nx) of cu T Rc Sz Nm By ([]))) := hD
  refine lv_icmp_eq (tgt := 305) hx hb d_law_243 (by decide) (fun hc243 => ?_) (fun hc243 => (absurd (rec_rel hpo hrl) hc243))
  exact hn ad bd sz cu pw ol nx en rq B Rt Tp eA eS eN of T Rc Sz Nm By (lI_mono hI) _ _ hP hD hS ls (lv_sub hl [0, 1, 2, 3] rfl)
set_option maxHeartbeats 4000000 in
set_option maxRecDepth 100000 in
/-- bytes -/
theorem op_bytes {p : Program} {l : Launch} {e : Env} {s : State} {m : MethodId} {below : List Frame} {meth : Method} {c : Code} {D : va_G} {cs : Nat → ClassId} {A : Nat → Prop} {b L i : Nat} {xs : Nat → Int32} (hB : Bd p s m #[Value.ref b] c code "JournalDeskLaw" 4 D cs) (hX : va_X b L xs s s.heap) (hbl : b < s.heap.size) (hbA : ¬ A b) (hL : L ≤ 2048) (hi : 4 * i + 3 < L) (hn : LAt p l e s m below meth c D cs A b 305 (4 * i) (i + 1)) : LAt p l e s m below meth c D cs A b 248 (4 * i) i := by
  intro ad bd sz cu pw ol nx en rq B Rt Tp eA eS eN of T Rc Sz Nm By hI H locs hP hD hS ls hl
  have hx := hB.1
  have hb := hB.2.1
  have hown := hB.2.2.2.1
  have hts := hB.2.2.2.2.1
  have hK := hB.2.2.2.2.2.1
  have hdI := hI.1
  have hrl := hI.2.1
  have hsz := hI.2.2.1
  have hnx := hI.2.2.2.2.2.2
  have hpo := lI_po hI
  have hon := hdI.1.1
  have hrq := hdI.1.2.2.1
  have hen := hdI.1.2.1
  have hsS := hdI.1.2.2.2.1
  have haA := hdI.1.2.2.2.2
  have hkp := rl_kp hdI
  have hz := rl_hz hdI hrl
  have hsM : ∀ k, (fun k => eS (ol + k)) k ≤ 100 := fun k => hsS (ol + k)
  refine lv_aload_n hx hb d_law_248 rfl (lv_at hl 1 rfl) ?_
  refine lv_aload_n hx hb d_law_249 rfl (lv_at hl 0 rfl) ?_
  refine lv_iload_n hx hb d_law_250 rfl (lv_at hl 3 rfl) ?_
  refine lv_iconst (v := nI 1) hx hb d_law_251 (by decide) ?_
  refine n_add hx hb d_law_252 ?_
  refine n_sld hx hb hX hbl hbA hS (by omega) (by omega) d_law_253 ?_
  refine lv_aload_n hx hb d_law_254 rfl (lv_at hl 0 rfl) ?_
  refine lv_iload_n hx hb d_law_255 rfl (lv_at hl 3 rfl) ?_
  refine lv_iconst (v := nI 2) hx hb d_law_256 (by decide) ?_
  refine n_add hx hb d_law_257 ?_
  refine n_sld hx hb hX hbl hbA hS (by omega) (by omega) d_law_258 ?_
  refine x_cSl (As := [.int (xs ((4 * i) + 1)), .int (xs ((4 * i) + 2))]) (rest := []) (n := 2) hB (c_D_bytes l hon (by omega) hsS haA) gi_L_44 (by decide +kernel) rfl rfl ⟨Nat.le_of_ble_eq_true rfl, Nat.le_of_ble_eq_true rfl⟩ hP hD 0 rfl rfl hl.1 rfl (Nat.le_of_ble_eq_true rfl) d_law_259 ⟨Nat.le_of_ble_eq_true rfl, Nat.le_of_ble_eq_true rfl⟩ (fun r hr => ?_)
  subst hr
  refine lv_aload_n hx hb d_law_262 rfl (lv_at hl 2 rfl) ?_
  refine lv_aload_n hx hb d_law_263 rfl (lv_at hl 0 rfl) ?_
  refine lv_iload_n hx hb d_law_264 rfl (lv_at hl 3 rfl) ?_
  refine lv_iconst (v := nI 1) hx hb d_law_265 (by decide) ?_
  refine n_add hx hb d_law_266 ?_
  refine n_sld hx hb hX hbl hbA hS (by omega) (by omega) d_law_267 ?_
  refine lv_aload_n hx hb d_law_268 rfl (lv_at hl 0 rfl) ?_
  refine lv_iload_n hx hb d_law_269 rfl (lv_at hl 3 rfl) ?_
  refine lv_iconst (v := nI 2) hx hb d_law_270 (by decide) ?_
  refine n_add hx hb d_law_271 ?_
  refine n_sld hx hb hX hbl hbA hS (by omega) (by omega) d_law_272 ?_
  have hP := pm_P dm_pm hP
  have hD := pm_D dm_pm hD
  have hP : va_P D classes (mW cs bd sz (nx - ol) (nI rq) (nI nx) of cu T Rc Sz Nm By (dW cs ad sz cu pw ol nx en (nI rq) B Rt Tp eA eS eN ([]))) H := hP
  have hD : va_D A (mW cs bd sz (nx - ol) (nI rq) (nI nx) of cu T Rc Sz Nm By (dW cs ad sz cu pw ol nx en (nI rq) B Rt Tp eA eS eN ([]))) := hD
  refine x_cSl (As := [.int (xs ((4 * i) + 1)), .int (xs ((4 * i) + 2))]) (rest := [.long (bytA pw B eA eS eN ol nx (xs (4 * i + 1)) (xs (4 * i + 2)))]) (n := 2) hB (c_M_bytes l (sN := fun k => eS (ol + k)) hkp hsM (fun k hk => (hz k hk).1)) gi_L_48 (by decide +kernel) rfl rfl ⟨Nat.le_of_ble_eq_true rfl, Nat.le_of_ble_eq_true rfl⟩ hP hD 0 rfl rfl hl.1 rfl (Nat.le_of_ble_eq_true rfl) d_law_273 ⟨Nat.le_of_ble_eq_true rfl, Nat.le_of_ble_eq_true rfl⟩ (fun r hr => ?_)
  subst hr
  have hP : va_P D classes (mW cs bd sz (nx - ol) (nI rq) (nI nx) of cu T Rc Sz Nm By (dW cs ad sz cu pw ol nx en (nI rq) B Rt Tp eA eS eN ([]))) H := hP
  have hD : va_D A (mW cs bd sz (nx - ol) (nI rq) (nI nx) of cu T Rc Sz Nm By (dW cs ad sz cu pw ol nx en (nI rq) B Rt Tp eA eS eN ([]))) := hD
  have hP := pm_P dm_pm.symm hP
  have hD := pm_D dm_pm.symm hD
  have hP : va_P D classes (dW cs ad sz cu pw ol nx en (nI rq) B Rt Tp eA eS eN (mW cs bd sz (nx - ol) (nI rq) (nI nx) of cu T Rc Sz Nm By ([]))) H := hP
  have hD : va_D A (dW cs ad sz cu pw ol nx en (nI rq) B Rt Tp eA eS eN (mW cs bd sz (nx - ol) (nI rq) (nI nx) of cu T Rc Sz Nm By ([]))) := hD
  refine W.lcmp hx hb d_law_276 ?_
  refine tp_i (y := 0) (by rw [byt_rel hpo hrl]; exact lg_same _) ?_
  refine lv_if_eq (tgt := 305) hx hb d_law_277 (by decide) (fun hc277 => ?_) (fun hc277 => (absurd rfl hc277))
  exact hn ad bd sz cu pw ol nx en rq B Rt Tp eA eS eN of T Rc Sz Nm By (lI_mono hI) _ _ hP hD hS ls (lv_sub hl [0, 1, 2, 3] rfl)
set_option maxHeartbeats 4000000 in
set_option maxRecDepth 100000 in
/-- count -/
theorem op_count {p : Program} {l : Launch} {e : Env} {s : State} {m : MethodId} {below : List Frame} {meth : Method} {c : Code} {D : va_G} {cs : Nat → ClassId} {A : Nat → Prop} {b L i : Nat} {xs : Nat → Int32} (hB : Bd p s m #[Value.ref b] c code "JournalDeskLaw" 4 D cs) (hX : va_X b L xs s s.heap) (hbl : b < s.heap.size) (hbA : ¬ A b) (hL : L ≤ 2048) (hi : 4 * i + 3 < L) (hn : LAt p l e s m below meth c D cs A b 305 (4 * i) (i + 1)) : LAt p l e s m below meth c D cs A b 282 (4 * i) i := by
  intro ad bd sz cu pw ol nx en rq B Rt Tp eA eS eN of T Rc Sz Nm By hI H locs hP hD hS ls hl
  have hx := hB.1
  have hb := hB.2.1
  have hown := hB.2.2.2.1
  have hts := hB.2.2.2.2.1
  have hK := hB.2.2.2.2.2.1
  have hdI := hI.1
  have hrl := hI.2.1
  have hsz := hI.2.2.1
  have hnx := hI.2.2.2.2.2.2
  have hpo := lI_po hI
  have hon := hdI.1.1
  have hrq := hdI.1.2.2.1
  have hen := hdI.1.2.1
  have hsS := hdI.1.2.2.2.1
  have haA := hdI.1.2.2.2.2
  have hkp := rl_kp hdI
  have hz := rl_hz hdI hrl
  have hsM : ∀ k, (fun k => eS (ol + k)) k ≤ 100 := fun k => hsS (ol + k)
  refine lv_aload_n hx hb d_law_282 rfl (lv_at hl 1 rfl) ?_
  refine lv_aload_n hx hb d_law_283 rfl (lv_at hl 0 rfl) ?_
  refine lv_iload_n hx hb d_law_284 rfl (lv_at hl 3 rfl) ?_
  refine lv_iconst (v := nI 1) hx hb d_law_285 (by decide) ?_
  refine n_add hx hb d_law_286 ?_
  refine n_sld hx hb hX hbl hbA hS (by omega) (by omega) d_law_287 ?_
  refine x_cSi (As := [.int (xs ((4 * i) + 1))]) (rest := []) (n := 1) hB (c_D_count l hon (by omega) hsS) gi_L_49 (by decide +kernel) rfl rfl ⟨Nat.le_of_ble_eq_true rfl, Nat.le_of_ble_eq_true rfl⟩ hP hD 0 rfl rfl hl.1 rfl (Nat.le_of_ble_eq_true rfl) d_law_288 ⟨Nat.le_of_ble_eq_true rfl, Nat.le_of_ble_eq_true rfl⟩ (fun r hr => ?_)
  subst hr
  refine lv_aload_n hx hb d_law_291 rfl (lv_at hl 2 rfl) ?_
  refine lv_aload_n hx hb d_law_292 rfl (lv_at hl 0 rfl) ?_
  refine lv_iload_n hx hb d_law_293 rfl (lv_at hl 3 rfl) ?_
  refine lv_iconst (v := nI 1) hx hb d_law_294 (by decide) ?_
  refine n_add hx hb d_law_295 ?_
  refine n_sld hx hb hX hbl hbA hS (by omega) (by omega) d_law_296 ?_
  have hP := pm_P dm_pm hP
  have hD := pm_D dm_pm hD
  have hP : va_P D classes (mW cs bd sz (nx - ol) (nI rq) (nI nx) of cu T Rc Sz Nm By (dW cs ad sz cu pw ol nx en (nI rq) B Rt Tp eA eS eN ([]))) H := hP
  have hD : va_D A (mW cs bd sz (nx - ol) (nI rq) (nI nx) of cu T Rc Sz Nm By (dW cs ad sz cu pw ol nx en (nI rq) B Rt Tp eA eS eN ([]))) := hD
  refine x_cSi (As := [.int (xs ((4 * i) + 1))]) (rest := [.int (cntV (xs (4 * i + 1)) (nI sz) (if pw = 0 then nI 0 else nI (mn eN ol (nx - ol))) (if pw = 0 then nI 0 else nI (us eS ol (nx - ol))) (nI nx) (if pw = 0 then nI 0 else nI 1))]) (n := 1) hB (c_M_count l (sN := fun k => eS (ol + k)) hkp hsM hz) gi_L_52 (by decide +kernel) rfl rfl ⟨Nat.le_of_ble_eq_true rfl, Nat.le_of_ble_eq_true rfl⟩ hP hD 0 rfl rfl hl.1 rfl (Nat.le_of_ble_eq_true rfl) d_law_297 ⟨Nat.le_of_ble_eq_true rfl, Nat.le_of_ble_eq_true rfl⟩ (fun r hr => ?_)
  subst hr
  have hP : va_P D classes (mW cs bd sz (nx - ol) (nI rq) (nI nx) of cu T Rc Sz Nm By (dW cs ad sz cu pw ol nx en (nI rq) B Rt Tp eA eS eN ([]))) H := hP
  have hD : va_D A (mW cs bd sz (nx - ol) (nI rq) (nI nx) of cu T Rc Sz Nm By (dW cs ad sz cu pw ol nx en (nI rq) B Rt Tp eA eS eN ([]))) := hD
  have hP := pm_P dm_pm.symm hP
  have hD := pm_D dm_pm.symm hD
  have hP : va_P D classes (dW cs ad sz cu pw ol nx en (nI rq) B Rt Tp eA eS eN (mW cs bd sz (nx - ol) (nI rq) (nI nx) of cu T Rc Sz Nm By ([]))) H := hP
  have hD : va_D A (dW cs ad sz cu pw ol nx en (nI rq) B Rt Tp eA eS eN (mW cs bd sz (nx - ol) (nI rq) (nI nx) of cu T Rc Sz Nm By ([]))) := hD
  refine lv_icmp_eq (tgt := 305) hx hb d_law_300 (by decide) (fun hc300 => ?_) (fun hc300 => (absurd (cnt_rel hpo hrl hon) hc300))
  exact hn ad bd sz cu pw ol nx en rq B Rt Tp eA eS eN of T Rc Sz Nm By (lI_mono hI) _ _ hP hD hS ls (lv_sub hl [0, 1, 2, 3] rfl)
end
section
set_option maxHeartbeats 4000000 in
set_option maxRecDepth 100000 in
/-- the law's loop -/
theorem law_loop {p : Program} {l : Launch} {e : Env} {s : State} {m : MethodId} {below : List Frame} {meth : Method} {c : Code} {D : va_G} {cs : Nat → ClassId} {A : Nat → Prop} {b L : Nat} {xs : Nat → Int32} (hB : Bd p s m #[Value.ref b] c code "JournalDeskLaw" 4 D cs) (hr : meth.sig.returnType = ret) (hlk : meth.locks = false) (hX : va_X b L xs s s.heap) (hbl : b < s.heap.size) (hbA : ¬ A b) (hA0 : ∀ q, A q → s.heap.size ≤ q) (hL : L ≤ 2048) : ∀ (n i : Nat), 4 * i ≤ L → L + 1 ≤ 4 * i + n → LAt p l e s m below meth c D cs A b 18 (4 * i) i := by
  intro n
  induction n with
  | zero => intro i h1 h2; exfalso; omega
  | succ n ih =>
    intro i hi0 hm
    have hx := hB.1
    have hb := hB.2.1
    have hback : 4 * i + 3 < L → LAt p l e s m below meth c D cs A b 305 (4 * i) (i + 1) := by
      intro hi ad bd sz cu pw ol nx en rq B Rt Tp eA eS eN of T Rc Sz Nm By hI H locs hP hD hS ls hl
      refine n_inc (d := 4) (k := 3) (lv' := [(3, .int (nI (4 * i + 4))), (0, .ref b), (1, .ref (ad 0)), (2, .ref (bd 0))]) hx hb d_law_305 (by decide) hl rfl (by decide) rfl (fun ls hl => ?_)
      refine lv_goto (tgt := 18) hx hb d_law_308 (by decide) ?_
      exact ih (i + 1) (by omega) (by omega) ad bd sz cu pw ol nx en rq B Rt Tp eA eS eN of T Rc Sz Nm By hI _ _ hP hD hS ls (lv_sub hl [1, 2, 3, 0] rfl)
    intro ad bd sz cu pw ol nx en rq B Rt Tp eA eS eN of T Rc Sz Nm By hI H locs hP hD hS ls hl
    refine lv_iload_n hx hb d_law_18 rfl (lv_at hl 3 rfl) ?_
    refine lv_aload_n hx hb d_law_19 rfl (lv_at hl 0 rfl) ?_
    refine va_slen hx hb hX hbl hbA hS d_law_20 ?_
    refine tp_i (y := nI L) rfl ?_
    refine lv_iconst (v := nI 4) hx hb d_law_21 (by decide) ?_
    have hend : W p l e room_1 s m #[Value.ref b] below meth c H locs 532 7366 (lw_Z below #[Value.ref b] s) (F0 m 311 ls []) := by
      refine lv_iconst (v := 1) hx hb d_law_311 (by decide) ?_
      refine va_forget (fun q hq => hA0 _ (hS.2.2 q hq)) ?_
      refine W.widen (k := 600000) (n := 7302250) (by decide) (by decide) ?_
      exact lw_ret hx hb hr hlk d_law_312
    by_cases h4 : 4 ≤ L
    · refine n_sub hx hb h4 d_law_22 ?_
      refine n_icmp_gt hx hb (by omega) (by omega) (tgt := 311) d_law_23 (by decide) (fun _ => hend) (fun hc => ?_)
      have hi : 4 * i + 3 < L := by omega
      have hn := hback hi
      refine lv_aload_n hx hb d_law_26 rfl (lv_at hl 0 rfl) ?_
      refine lv_iload_n hx hb d_law_27 rfl (lv_at hl 3 rfl) ?_
      refine n_sld hx hb hX hbl hbA hS (by omega) (by omega) d_law_28 ?_
      refine lv_bipush (v := 7) hx hb d_law_29 (by decide) ?_
      refine lv_iand hx hb d_law_31 ?_
      obtain ⟨j, hj, hjx⟩ := pk_andE (xs (4 * i)) (m := 7) 3 (by decide)
      refine tp_i (y := nI j) hjx ?_
      by_cases e0 : j = 0
      · subst e0
        refine lv_tableIn (off := 48) (tgt := 80) hx hb d_law_32 (by decide) (by decide) rfl (by decide) ?_
        exact op_put hB hX hbl hbA hL hi hn ad bd sz cu pw ol nx en rq B Rt Tp eA eS eN of T Rc Sz Nm By hI _ _ hP hD hS ls hl
      by_cases e1 : j = 1
      · subst e1
        refine lv_tableIn (off := 111) (tgt := 143) hx hb d_law_32 (by decide) (by decide) rfl (by decide) ?_
        exact op_write hB hX hbl hbA hL hi hn ad bd sz cu pw ol nx en rq B Rt Tp eA eS eN of T Rc Sz Nm By hI _ _ hP hD hS ls hl
      by_cases e2 : j = 2
      · subst e2
        refine lv_tableIn (off := 124) (tgt := 156) hx hb d_law_32 (by decide) (by decide) rfl (by decide) ?_
        exact op_drop hB hX hbl hbA hL hi hn ad bd sz cu pw ol nx en rq B Rt Tp eA eS eN of T Rc Sz Nm By hI _ _ hP hD hS ls hl
      by_cases e3 : j = 3
      · subst e3
        refine lv_tableIn (off := 147) (tgt := 179) hx hb d_law_32 (by decide) (by decide) rfl (by decide) ?_
        exact op_cut hB hX hbl hbA hL hi hn ad bd sz cu pw ol nx en rq B Rt Tp eA eS eN of T Rc Sz Nm By hI _ _ hP hD hS ls hl
      by_cases e4 : j = 4
      · subst e4
        refine lv_tableIn (off := 170) (tgt := 202) hx hb d_law_32 (by decide) (by decide) rfl (by decide) ?_
        exact op_start hB hX hbl hbA hL hi hn ad bd sz cu pw ol nx en rq B Rt Tp eA eS eN of T Rc Sz Nm By hI _ _ hP hD hS ls hl
      by_cases e5 : j = 5
      · subst e5
        refine lv_tableIn (off := 183) (tgt := 215) hx hb d_law_32 (by decide) (by decide) rfl (by decide) ?_
        exact op_record hB hX hbl hbA hL hi hn ad bd sz cu pw ol nx en rq B Rt Tp eA eS eN of T Rc Sz Nm By hI _ _ hP hD hS ls hl
      by_cases e6 : j = 6
      · subst e6
        refine lv_tableIn (off := 216) (tgt := 248) hx hb d_law_32 (by decide) (by decide) rfl (by decide) ?_
        exact op_bytes hB hX hbl hbA hL hi hn ad bd sz cu pw ol nx en rq B Rt Tp eA eS eN of T Rc Sz Nm By hI _ _ hP hD hS ls hl
      by_cases e7 : j = 7
      · subst e7
        refine lv_tableIn (off := 250) (tgt := 282) hx hb d_law_32 (by decide) (by decide) rfl (by decide) ?_
        exact op_count hB hX hbl hbA hL hi hn ad bd sz cu pw ol nx en rq B Rt Tp eA eS eN of T Rc Sz Nm By hI _ _ hP hD hS ls hl
      exfalso
      omega
    · refine lv_isub hx hb d_law_22 ?_
      refine lv_icmp_gt (tgt := 311) hx hb d_law_23 (by decide) (fun _ => hend) (fun hc => ?_)
      exfalso
      apply hc
      have h1 := pk_sneg (a := L) (b := 4) (by omega) (by omega)
      have h2 := nI_pos' (n := 4 * i) (by omega)
      rw [Int32.lt_iff_toInt_lt] at h1 ⊢
      rw [Int32.le_iff_toInt_le] at h2
      omega
/-- the array classes, out of the tables -/
theorem ac_known {A : Array Value} {s : State} (h : ∀ w ∈ tables_1, w.before A s = true) : ∃ cs : Nat → ClassId, ∀ (k : Nat) (q : ClassId × FieldType), (tyc cs)[k]? = some q → ArrOfT s q.1 q.2 ∧ va_RA s q.1 q.2 := by
  obtain ⟨c0, k0, p0, a1, a2, a3⟩ := Cond.arrayClass_spec (h (.arrayClass .byte) (List.mem_of_getElem? (i := 28) (by decide +kernel)))
  obtain ⟨c1, k1, p1, b1, b2, b3⟩ := Cond.arrayClass_spec (h (.arrayClass .boolean) (List.mem_of_getElem? (i := 29) (by decide +kernel)))
  obtain ⟨p2, c2, k2, d1, -, d2, d3, d4⟩ := Cond.arrayOver_spec (h (.arrayOver (.object "JournalDesk$Entry")) (List.mem_of_getElem? (i := 31) (by decide +kernel)))
  obtain ⟨c3, k3, p3, f1, f2, f3⟩ := Cond.arrayClass_spec (h (.arrayClass .int) (List.mem_of_getElem? (i := 215) (by decide +kernel)))
  refine ⟨fun k => match k with | 0 => c0 | 1 => c1 | 2 => c2 | _ => c3, fun k q hk => ?_⟩
  match k, hk with
  | 0, hk => cases hk; exact ⟨fun n z => ⟨fun k h => (by cases h), k0, a2, p0, a3⟩, a1⟩
  | 1, hk => cases hk; exact ⟨fun n z => ⟨fun k h => (by cases h), k1, b2, p1, b3⟩, b1⟩
  | 2, hk => cases hk; exact ⟨fun n z => ⟨fun k h => (by cases h), k2, d2, p2, d3⟩, k2, p2, d2, d3, d1, d4⟩
  | 3, hk => cases hk; exact ⟨fun n z => ⟨fun k h => (by cases h), k3, f2, p3, f3⟩, f1⟩
  | k + 4, hk => simp [tyc] at hk
set_option maxHeartbeats 4000000 in
set_option maxRecDepth 100000 in
/-- THE LAW, from its entry -/
theorem whole_start {p : Program} {e : Env} {s : State} {m : MethodId} {below : List Frame} {meth : Method} {c : Code} (l : Launch) {b L : Nat} {xs : Nat → Int32} (hL : L ≤ 2048) (C0 : lw_At p s m meth c b L xs) : W p l e room_1 s m #[Value.ref b] below meth c s.heap [] 0 0 (lw_Z below #[Value.ref b] s) (entryFrame m ([Value.ref b] : List Value).toArray 4) := by
  obtain ⟨hx, hb, hr, hml, hown, htl, hX, hbl, hlocks, hgv⟩ := id C0
  have hts : ∀ w ∈ gw, w.before #[Value.ref b] s = true := fun w hw => htl w (gw_tbl hw)
  have htb : ∀ w ∈ tables_1, w.before #[Value.ref b] s = true := fun w hw => htl w (List.mem_append_right _ hw)
  obtain ⟨A, hAe⟩ : ∃ A : Nat → Prop, A = fun q : Nat => s.heap.size ≤ q := ⟨_, rfl⟩
  have hA : ∀ q : Nat, s.heap.size ≤ q → A q := fun q h => by rw [hAe]; exact h
  have hA0 : ∀ q, A q → s.heap.size ≤ q := fun q h => by rw [hAe] at h; exact h
  have hbA : ¬ A b := fun h => Nat.not_le.mpr hbl (hA0 b h)
  obtain ⟨c0, iS0, hKn0⟩ := u_known (C := "JournalDesk") (T := F_D) (N := 10) (n := 10) hts in_D (hts _ is_D)
  obtain ⟨c1, iS1, hKn1⟩ := u_known (C := "JournalDesk$Disk") (T := F_K) (N := 2) (n := 2) hts in_K (hts _ is_K)
  obtain ⟨c2, iS2, hKn2⟩ := u_known (C := "JournalDesk$Entry") (T := F_E) (N := 3) (n := 3) hts in_E (hts _ is_E)
  obtain ⟨c3, iS3, hKn3⟩ := u_known (C := "JournalDeskModel") (T := F_M) (N := 11) (n := 11) hts in_M (hts _ is_M)
  obtain ⟨D, hKc⟩ : ∃ D : va_G, ∀ (k : Nat) (q : vw_C), classes[k]? = some q → u_Kn s q.1 q.2.1 q.2.2 (D.1 k) (D.2 k) := by
    refine ⟨(fun k => match k with | 0 => c0 | 1 => c1 | 2 => c2 | _ => c3, fun k => match k with | 0 => iS0 | 1 => iS1 | 2 => iS2 | _ => iS3), ?_⟩
    intro k q hq
    match k, hq with
    | 0, hq => cases hq; exact hKn0
    | 1, hq => cases hq; exact hKn1
    | 2, hq => cases hq; exact hKn2
    | 3, hq => cases hq; exact hKn3
    | k + 4, hq => simp [classes] at hq
  obtain ⟨cs, hcs⟩ := ac_known htb
  have hB : Bd p s m #[Value.ref b] c code "JournalDeskLaw" 4 D cs := ⟨hx, hb, hml, hown, hts, ⟨hKc, hcs⟩, KN.of htb⟩
  have hS : va_S A s.heap s.heap [] := va_S.rf
  have hP : va_P D classes [] s.heap := fun k q h => by simp at h
  have hD : va_D A [] := ⟨fun i j p q h => by simp at h, fun k q h => by simp at h⟩
  have hl := lv_entry ([.ref b]) (n := 4) (Nat.le_of_ble_eq_true rfl)
  rw [lg_entry_eq]
  generalize (lg_sl ([.ref b]) ++ List.replicate (4 - (lg_sl ([.ref b])).length) Slot.unset).toArray = ls at hl ⊢
  have hl : lv_has ls 4 [(0, .ref b)] := hl
  refine x_new (C := "JournalDesk") (T := F_D) (N := 10) (ci := 0) (fs := [.null, .null, .int (nI 0), .int 0, .int 0, .null, .int (nI 0), .int (nI 0), .int (nI 0), .int 0]) hB in_D t_D t_D_ok rfl kl_L_7 is_D it_D hP hD hS hA (fun j hj => by rcases (show j = 0 ∨ j = 1 ∨ j = 2 ∨ j = 3 ∨ j = 4 ∨ j = 5 ∨ j = 6 ∨ j = 7 ∨ j = 8 ∨ j = 9 by omega) with rfl | rfl | rfl | rfl | rfl | rfl | rfl | rfl | rfl | rfl <;> rfl) (Nat.le_of_ble_eq_true rfl) (Nat.le_of_ble_eq_true rfl) d_law_0 (fun q0 H hP hD hS => ?_)
  have hP : va_P D classes [(q0, .inr (0, [.null, .null, .int (nI 0), .int 0, .int 0, .null, .int (nI 0), .int (nI 0), .int (nI 0), .int 0]))] H := hP
  have hD : va_D A [(q0, .inr (0, [.null, .null, .int (nI 0), .int 0, .int 0, .null, .int (nI 0), .int (nI 0), .int (nI 0), .int 0]))] := hD
  refine lv_dup hx hb d_law_3 rfl ?_
  refine x_cI (rest := [.ref q0]) hB (c_D_init l) cd_D_init im_D_init it_D ml_L_9 (by decide +kernel) rfl rfl rfl ⟨(Nat.le_of_ble_eq_true rfl), (Nat.le_of_ble_eq_true rfl)⟩ hP hD hS (fun q h => hA q (Nat.le_trans hS.1 h)) hl.1 (Nat.le_of_ble_eq_true rfl) d_law_4 ⟨(Nat.le_of_ble_eq_true rfl), (Nat.le_of_ble_eq_true rfl)⟩ (fun w H locs hw hP hD hS => ?_)
  obtain ⟨ad, rfl, rfl⟩ := hw
  refine lv_astore_n (lv' := [(1, .ref (ad 0)), (0, .ref b)]) hx hb d_law_7 rfl hl (by decide) rfl (fun ls hl => ?_)
  refine x_new (C := "JournalDeskModel") (T := F_M) (N := 11) (ci := 3) (fs := [.null, .int (nI 0), .int (nI 0), .null, .null, .null, .null, .int 0, .int 0, .int 0, .int 0]) hB in_M t_M t_M_ok rfl kl_L_10 is_M it_M hP hD hS hA (fun j hj => by rcases (show j = 0 ∨ j = 1 ∨ j = 2 ∨ j = 3 ∨ j = 4 ∨ j = 5 ∨ j = 6 ∨ j = 7 ∨ j = 8 ∨ j = 9 ∨ j = 10 by omega) with rfl | rfl | rfl | rfl | rfl | rfl | rfl | rfl | rfl | rfl | rfl <;> rfl) (Nat.le_of_ble_eq_true rfl) (Nat.le_of_ble_eq_true rfl) d_law_8 (fun q1 H hP hD hS => ?_)
  have hP : va_P D classes ((q1, .inr (3, [.null, .int (nI 0), .int (nI 0), .null, .null, .null, .null, .int 0, .int 0, .int 0, .int 0])) :: (dW cs ad 0 (-1) (nI 1) 0 0 0 0 (fun _ => 0) (fun _ => 0) (fun _ => 0) (fun _ => 0) (fun _ => 0) (fun _ => 0) [])) H := pm_P List.perm_append_comm hP
  have hD : va_D A ((q1, .inr (3, [.null, .int (nI 0), .int (nI 0), .null, .null, .null, .null, .int 0, .int 0, .int 0, .int 0])) :: (dW cs ad 0 (-1) (nI 1) 0 0 0 0 (fun _ => 0) (fun _ => 0) (fun _ => 0) (fun _ => 0) (fun _ => 0) (fun _ => 0) [])) := pm_D List.perm_append_comm hD
  refine lv_dup hx hb d_law_11 rfl ?_
  refine x_cI (rest := [.ref q1]) hB (c_M_init l) cd_M_init im_M_init it_M ml_L_12 (by decide +kernel) rfl rfl rfl ⟨(Nat.le_of_ble_eq_true rfl), (Nat.le_of_ble_eq_true rfl)⟩ hP hD hS (fun q h => hA q (Nat.le_trans hS.1 h)) hl.1 (Nat.le_of_ble_eq_true rfl) d_law_12 ⟨(Nat.le_of_ble_eq_true rfl), (Nat.le_of_ble_eq_true rfl)⟩ (fun w H locs hw hP hD hS => ?_)
  obtain ⟨bd, rfl, rfl⟩ := hw
  have hP : va_P D classes (dW cs ad 0 (-1) (nI 1) 0 0 0 0 (fun _ => 0) (fun _ => 0) (fun _ => 0) (fun _ => 0) (fun _ => 0) (fun _ => 0) (mW cs bd 0 0 0 0 0 (-1) (fun _ => 0) (fun _ => 0) (fun _ => 0) (fun _ => 0) (fun _ => 0) [])) H := pm_P dm_pm.symm hP
  have hD : va_D A (dW cs ad 0 (-1) (nI 1) 0 0 0 0 (fun _ => 0) (fun _ => 0) (fun _ => 0) (fun _ => 0) (fun _ => 0) (fun _ => 0) (mW cs bd 0 0 0 0 0 (-1) (fun _ => 0) (fun _ => 0) (fun _ => 0) (fun _ => 0) (fun _ => 0) [])) := pm_D dm_pm.symm hD
  refine lv_astore_n (lv' := [(2, .ref (bd 0)), (1, .ref (ad 0)), (0, .ref b)]) hx hb d_law_15 rfl hl (by decide) rfl (fun ls hl => ?_)
  refine lv_iconst (v := nI 0) hx hb d_law_16 (by decide) ?_
  refine lv_istore_n (lv' := [(3, .int (nI 0)), (2, .ref (bd 0)), (1, .ref (ad 0)), (0, .ref b)]) hx hb d_law_17 rfl hl (by decide) rfl (fun ls hl => ?_)
  refine W.widen (k := 532) (n := 7366) (Nat.le_of_ble_eq_true rfl) (Nat.le_of_ble_eq_true rfl) ?_
  exact law_loop hB hr hlocks hX hbl hbA hA0 hL (L + 1) 0 (Nat.zero_le _) (by omega) ad bd 0 (-1) (nI 1) 0 0 0 0 (fun _ => 0) (fun _ => 0) (fun _ => 0) (fun _ => 0) (fun _ => 0) (fun _ => 0) 0 (fun _ => 0) (fun _ => 0) (fun _ => 0) (fun _ => 0) (fun _ => 0) lI_0 _ _ hP hD hS ls (lv_sub hl [3, 2, 1, 0] rfl)
end
section
set_option maxHeartbeats 4000000 in
theorem lw_walk (l : Launch) (b : Addr) (xs : List Int32) : MetFree l x (headSpec (Jvm.Cond.code x code maxLocals ret :: tables_1) room_1) (lw_P b xs) (fun _ _ _ _ _ => True) lw_Q := by
  refine MetFree.of_bodyS (code := code) (maxLocals := maxLocals) (ret := ret) (by decide) ?_ ?_
  · intro args s m h hn
    obtain ⟨meth, c, h1, h2, h3, h4, h5, h6, -, -⟩ := Cond.code_spec hn (atoms_spec (ws := Jvm.Cond.code x code maxLocals ret :: tables_1) h _ List.mem_cons_self)
    exact ⟨meth, c, h1, h2, h3, h4, h5, h6⟩
  · intro p e s m args below meth c s₁ B hml0 hP _
    obtain ⟨rfl, hx, hbd, hgv⟩ := hP
    obtain ⟨scr, harrAt, hlist, hof, hsmall⟩ := hx
    obtain ⟨hcb, hkn, -, -⟩ := State.arrayAt?_spec harrAt
    have hown : s.vm.findClass R_law = some m.cls := findClass_of_methodNamed B.named
    have hts0 : ∀ c ∈ (Jvm.Cond.code x code maxLocals ret :: tables_1), c.before #[Value.ref b] s = true := atoms_spec (ws := Jvm.Cond.code x code maxLocals ret :: tables_1) B.pre
    have hts : ∀ w ∈ lw_tbl, w.before #[Value.ref b] s = true := k2_hts_sels lw_privs (fun w hw => hts0 w (List.mem_cons_of_mem _ hw)) lw_privs_ok
    have hml : c.maxLocals = 4 := B.maxLocals_eq (hts0 _ List.mem_cons_self)
    have X₀ : Stand p l e room_1 s m #[Value.ref b] below meth c s₁ [] 0 0 := Stand.of_body B
    have hh0 : s₁.heap = s.heap := by rw [B.state]; rfl
    have hsz : scr.slots.size = xs.length := by rw [← Array.length_toList, hlist, List.length_map]
    have hval : ∀ j : Nat, j < xs.length → scr.slots[j]? = some (.int (xs.getD j 0)) := fun j hj => by
      rw [← Array.getElem?_toList, hlist]
      simp [hj]
    have hbl : b < s.heap.size := (Array.getElem?_eq_some_iff.mp hcb).1
    have hX : va_X b xs.length (fun j => xs.getD j 0) s s.heap := ⟨scr, hcb, hof, hkn, hsz, hval⟩
    have K : W p l e room_1 s m #[Value.ref b] below meth c s₁.heap [] 0 0 (lw_Z below #[Value.ref b] s) (entryFrame m ([Value.ref b] : List Value).toArray 4) := by
      rw [hh0]
      exact whole_start l hbd ⟨B.exec, B.bytes, B.returns, hml, hown, hts, hX, hbl, B.notSynchronized, hgv⟩
    obtain ⟨t, a1, o, b1, b2, b3⟩ := K s₁ rfl X₀
    exact ⟨t, o, a1, b1, b2, b3⟩
theorem lw_pre_spec {args : Array Value} {s : State} (h : (Jvm.Cond.and given_1 narrow_1).before args s = true) (hr : rest_1_c.before args s = true) : ∃ (b : Addr) (xs : List Int32), lw_P b xs args s := by
  have hs := flat_of_before _ h
  have hq := flat_of_before _ hr
  have hc : (Cond.count 1).before args s = true := hs _ (by decide +kernel)
  have harr : (Cond.arrayOf (.arg 0) .int).before args s = true := hs _ (by decide +kernel)
  have hle : (Cond.le (.length (.arg 0)) (.int 2048)).before args s = true := hs _ (by decide +kernel)
  have hlen : (Cond.isInt (.length (.arg 0))).before args s = true := hq _ (by decide +kernel)
  have hall : (Cond.all (.arg 0) (.isInt (.elem (.arg 0) (.index 0)))).before args s = true := hq _ (by decide +kernel)
  obtain ⟨b, xs, hb, hx⟩ := State.ints_of_pre rfl harr hlen hall
  have hsm : xs.length < 2 ^ 31 := hx.choose_spec.2.2.2
  have hev : (Term.length (.arg 0)).eval args s none [] s = some (.int xs.length.toInt32) := hx.length_eval hb
  have hv := Cond.le_ints hev (show (Term.int 2048).eval args s none [] s = some (.int 2048) from rfl)
  have hd : xs.length.toInt32 ≤ 2048 := by
    simpa [Cond.before, Cond.holds, hv] using hle
  have hN : xs.length ≤ 2048 := (Int32.ofNat_le_ofNat hsm (by decide)).mp (show Int32.ofNat xs.length ≤ Int32.ofNat 2048 from hd)
  exact ⟨b, xs, Cond.one_arg hc (show args[0]? = some (.ref b) from hb), hx, hN, h⟩
theorem lw_comes (l : Launch) : Comes l x (Jvm.Cond.code x code maxLocals ret :: tables_1) room_1 (fun tb e args s => Calls_1 tb e args s ∧ rest_1 tb e args s ∧ Pre_1 tb e args s)
    (fun _ _ args s o t => lw_Q args s o t) := by
  intro p e ha hc hk s m args below hf hfit hheap happ hpre
  obtain ⟨b, xs, hP⟩ := lw_pre_spec hpre.2.2 hpre.2.1
  obtain ⟨k, o, h1, h2, h3, hQ⟩ := lw_walk l b xs p e ha hc hk s m args below hf ((Spec.applies_iff_loose hf).mp happ).1 hP trivial
  exact ⟨k, o, h1, h2, h3, hQ⟩
theorem lw_frame {s t : State} {o : Outcome} {args : Array Value} (h : Framed s o t [] 600000 7302250) :
    Framed s o t (fieldLocs frame_1_writes args s ++ arrayLocs frame_1_arrays args s ++ staticLocs frame_1_statics s) 600000 7302250 := h
theorem lw_limb (L : Cond) (hL : ∀ (args : Array Value) (s t : State), L.after args s (.returned (some (.int 1))) t = true) :
    ArmFor flags0 classFile x code maxLocals ret World_1 tables_1 room_1 Calls_1 rest_1 Pre_1
      (fun tb e a s o t => postC L tb e a s o t ∧ Framed s o t (fieldLocs frame_1_writes a s ++ arrayLocs frame_1_arrays a s ++ staticLocs frame_1_statics s) 600000 7302250) := by
  intro l _ _ _ p e ha hc hk s m args below hf hfit hheap happ hpre
  obtain ⟨k, o, h1, h2, h3, rfl, hF⟩ := lw_comes l p e ha hc hk s m args below hf hfit hheap happ hpre
  exact ⟨k, _, h1, h2, h3, hL args s _, lw_frame hF⟩
theorem i_vc : Claimed_1_1 ∧ Claimed_1_2 := ⟨lw_limb limb_1_1 (fun args s t => by simp [limb_1_1, Cond.after, Cond.holds, Cond.value]), lw_limb limb_1_2 (fun args s t => Cond.after_iff.mpr (by
  first | (rw [show limb_1_2 = Cond.eq .result (.int 1) from rfl, Cond.eq_ints (x := 1) (y := 1) rfl rfl]; simp; done) | (simp [limb_1_2, Cond.value, Term.eval]; done)))⟩
end
